/-! ThreeSizesModel -/
set_option maxRecDepth 100000
def RX4 : String := "ThreeSizesModel"
def TX4 : u_T := fun k => match k with
  | 0 => ("ThreeSizesModel", "shelf", "[I", true)
  | 1 => ("ThreeSizesModel", "rowSort", "[I", true)
  | 2 => ("ThreeSizesModel", "rowSize", "[I", true)
  | 3 => ("ThreeSizesModel", "rows", "[[J", true)
  | 4 => ("ThreeSizesModel", "moved", "[J", true)
  | 5 => ("ThreeSizesModel", "ruleKind", "[I", true)
  | 6 => ("ThreeSizesModel", "ruleBy", "[I", true)
  | 7 => ("ThreeSizesModel", "tape", "[I", true)
  | 8 => ("ThreeSizesModel", "tapeSize", "I", false)
  | 9 => ("ThreeSizesModel", "refused", "[I", true)
  | 10 => ("ThreeSizesModel", "boxes", "[I", true)
  | 11 => ("ThreeSizesModel", "full", "[I", true)
  | 12 => ("ThreeSizesModel", "goes", "[I", true)
  | 13 => ("ThreeSizesModel", "sorts", "I", false)
  | 14 => ("ThreeSizesModel", "sort", "[[I", true)
  | 15 => ("ThreeSizesModel", "asked", "[I", true)
  | 16 => ("ThreeSizesModel", "day", "[I", true)
  | 17 => ("ThreeSizesModel", "seed", "I", false)
  | 18 => ("ThreeSizesModel", "kept", "LThreeSizesModel;", false)
  | 19 => ("ThreeSizesModel", "tried", "LThreeSizesModel;", false)
  | 20 => ("ThreeSizesModel", "at", "I", false)
  | 21 => ("ThreeSizesModel", "token", "I", false)
  | 22 => ("ThreeSizesModel", "from", "I", false)
  | 23 => ("ThreeSizesModel", "figures", "J", false)
  | 24 => ("ThreeSizesModel", "fault", "I", false)
  | 25 => ("ThreeSizesModel", "told", "[I", true)
  | 26 => ("ThreeSizesModel", "statements", "I", false)
  | 27 => ("ThreeSizesModel", "wiseGets", "[[I", true)
  | 28 => ("ThreeSizesModel", "values", "[[J", true)
  | 29 => ("ThreeSizesModel", "behind", "[J", true)
  | 30 => ("ThreeSizesModel", "carted", "[I", true)
  | 31 => ("ThreeSizesModel", "triedSize", "[I", true)
  | 32 => ("ThreeSizesModel", "bestSize", "[I", true)
  | 33 => ("ThreeSizesModel", "cartMost", "J", false)
  | 34 => ("ThreeSizesModel", "cartAny", "Z", false)
  | 35 => ("ThreeSizesModel", "wrongAt", "I", false)
  | 36 => ("ThreeSizesModel", "stateThen", "I", false)
  | _ => ("ThreeSizesModel", "placedMany", "I", false)
def tyX4 : Nat → FieldType := fun k => match k with
  | 0 => .array .int
  | 1 => .array .int
  | 2 => .array .int
  | 3 => .array (.array .long)
  | 4 => .array .long
  | 5 => .array .int
  | 6 => .array .int
  | 7 => .array .int
  | 8 => .int
  | 9 => .array .int
  | 10 => .array .int
  | 11 => .array .int
  | 12 => .array .int
  | 13 => .int
  | 14 => .array (.array .int)
  | 15 => .array .int
  | 16 => .array .int
  | 17 => .int
  | 18 => .object "ThreeSizesModel"
  | 19 => .object "ThreeSizesModel"
  | 20 => .int
  | 21 => .int
  | 22 => .int
  | 23 => .long
  | 24 => .int
  | 25 => .array .int
  | 26 => .int
  | 27 => .array (.array .int)
  | 28 => .array (.array .long)
  | 29 => .array .long
  | 30 => .array .int
  | 31 => .array .int
  | 32 => .array .int
  | 33 => .long
  | 34 => .boolean
  | 35 => .int
  | 36 => .int
  | _ => .int
abbrev wsX40 : List Cond := u_ws RX4 TX4 38
set_option maxRecDepth 100000 in
theorem nmX4 : ∀ a, a < 38 → ∀ b, b < 38 → a ≠ b → (TX4 a).2.1 ≠ (TX4 b).2.1 := by decide +kernel
set_option maxRecDepth 100000 in
theorem tyX4_ok : ∀ k, k < 38 → parseFieldDescriptor (TX4 k).2.2.1 = some (tyX4 k) := by decide +kernel
abbrev cX4_init : ByteArray := prog_19_method_1_code
def yX4_init : MethodName := ⟨RX4, "<init>", "()V"⟩
def dkwX4_init_9 : List UInt8 := [181, 0, 76, 42, 16, 6, 188, 10, 181, 0, 79, 42, 16, 6, 188, 10, 181, 0, 82, 177]
abbrev dktX4_init_9 : List UInt8 := dkwX4_init_9 ++ []
def dkwX4_init_8 : List UInt8 := [16, 25, 16, 125, 197, 0, 19, 2, 181, 0, 70, 42, 16, 125, 188, 11, 181, 0, 73, 42, 16, 6, 188, 10]
abbrev dktX4_init_8 : List UInt8 := dkwX4_init_8 ++ dktX4_init_9
def dkwX4_init_7 : List UInt8 := [181, 0, 60, 42, 4, 188, 10, 181, 0, 64, 42, 16, 6, 16, 125, 197, 0, 49, 2, 181, 0, 67, 42]
abbrev dktX4_init_7 : List UInt8 := dkwX4_init_7 ++ dktX4_init_8
def dkwX4_init_6 : List UInt8 := [188, 10, 89, 3, 3, 79, 89, 4, 8, 79, 181, 0, 54, 42, 16, 6, 188, 10, 181, 0, 57, 42, 4]
abbrev dktX4_init_6 : List UInt8 := dkwX4_init_6 ++ dktX4_init_7
def dkwX4_init_5 : List UInt8 := [4, 6, 79, 89, 5, 6, 79, 181, 0, 46, 42, 16, 6, 7, 197, 0, 49, 2, 181, 0, 51, 42, 5]
abbrev dktX4_init_5 : List UInt8 := dkwX4_init_5 ++ dktX4_init_6
def dkwX4_init_4 : List UInt8 := [79, 89, 5, 5, 79, 181, 0, 40, 42, 6, 188, 10, 181, 0, 43, 42, 6, 188, 10, 89, 3, 6, 79, 89]
abbrev dktX4_init_4 : List UInt8 := dkwX4_init_4 ++ dktX4_init_5
def dkwX4_init_3 : List UInt8 := [188, 10, 181, 0, 34, 42, 16, 8, 188, 10, 181, 0, 37, 42, 6, 188, 10, 89, 3, 5, 79, 89, 4, 5]
abbrev dktX4_init_3 : List UInt8 := dkwX4_init_3 ++ dktX4_init_4
def dkwX4_init_2 : List UInt8 := [181, 0, 24, 42, 16, 8, 188, 10, 181, 0, 28, 42, 16, 8, 188, 10, 181, 0, 31, 42, 17, 0, 200]
abbrev dktX4_init_2 : List UInt8 := dkwX4_init_2 ++ dktX4_init_3
def dkwX4_init_1 : List UInt8 := [188, 10, 181, 0, 16, 42, 16, 8, 16, 40, 197, 0, 19, 2, 181, 0, 21, 42, 16, 40, 188, 11]
abbrev dktX4_init_1 : List UInt8 := dkwX4_init_1 ++ dktX4_init_2
def dkwX4_init_0 : List UInt8 := [42, 183, 0, 1, 42, 16, 8, 188, 10, 181, 0, 7, 42, 16, 8, 188, 10, 181, 0, 13, 42, 16, 8]
abbrev dktX4_init_0 : List UInt8 := dkwX4_init_0 ++ dktX4_init_1
theorem dksX4_init_0 : cX4_init.data.toList.drop 0 = dktX4_init_0 := by decide +kernel
theorem dksX4_init_1 : cX4_init.data.toList.drop 23 = dktX4_init_1 := dk_seg dksX4_init_0 23 rfl rfl
theorem dksX4_init_2 : cX4_init.data.toList.drop 45 = dktX4_init_2 := dk_seg dksX4_init_1 22 rfl rfl
theorem dksX4_init_3 : cX4_init.data.toList.drop 68 = dktX4_init_3 := dk_seg dksX4_init_2 23 rfl rfl
theorem dksX4_init_4 : cX4_init.data.toList.drop 92 = dktX4_init_4 := dk_seg dksX4_init_3 24 rfl rfl
theorem dksX4_init_5 : cX4_init.data.toList.drop 116 = dktX4_init_5 := dk_seg dksX4_init_4 24 rfl rfl
theorem dksX4_init_6 : cX4_init.data.toList.drop 139 = dktX4_init_6 := dk_seg dksX4_init_5 23 rfl rfl
theorem dksX4_init_7 : cX4_init.data.toList.drop 162 = dktX4_init_7 := dk_seg dksX4_init_6 23 rfl rfl
theorem dksX4_init_8 : cX4_init.data.toList.drop 185 = dktX4_init_8 := dk_seg dksX4_init_7 23 rfl rfl
theorem dksX4_init_9 : cX4_init.data.toList.drop 209 = dktX4_init_9 := dk_seg dksX4_init_8 24 rfl rfl
theorem dX4_init_0 : decode cX4_init 0 = .ok (.aload_n 0, 1) := dk_42 (dk_at dksX4_init_0 0 rfl rfl)
theorem dX4_init_1 : decode cX4_init 1 = .ok (.invokespecial 1, 3) := dk_183 0 1 (dk_at dksX4_init_0 1 rfl rfl)
theorem dX4_init_4 : decode cX4_init 4 = .ok (.aload_n 0, 1) := dk_42 (dk_at dksX4_init_0 4 rfl rfl)
theorem dX4_init_5 : decode cX4_init 5 = .ok (.bipush 8, 2) := dk_16 8 (dk_at dksX4_init_0 5 rfl rfl)
theorem dX4_init_7 : decode cX4_init 7 = .ok (.newarray .int, 2) := dk_188_10 (dk_at dksX4_init_0 7 rfl rfl)
theorem dX4_init_9 : decode cX4_init 9 = .ok (.putfield 7, 3) := dk_181 0 7 (dk_at dksX4_init_0 9 rfl rfl)
theorem dX4_init_12 : decode cX4_init 12 = .ok (.aload_n 0, 1) := dk_42 (dk_at dksX4_init_0 12 rfl rfl)
theorem dX4_init_13 : decode cX4_init 13 = .ok (.bipush 8, 2) := dk_16 8 (dk_at dksX4_init_0 13 rfl rfl)
theorem dX4_init_15 : decode cX4_init 15 = .ok (.newarray .int, 2) := dk_188_10 (dk_at dksX4_init_0 15 rfl rfl)
theorem dX4_init_17 : decode cX4_init 17 = .ok (.putfield 13, 3) := dk_181 0 13 (dk_at dksX4_init_0 17 rfl rfl)
theorem dX4_init_20 : decode cX4_init 20 = .ok (.aload_n 0, 1) := dk_42 (dk_at dksX4_init_0 20 rfl rfl)
theorem dX4_init_21 : decode cX4_init 21 = .ok (.bipush 8, 2) := dk_16 8 (dk_at dksX4_init_0 21 rfl rfl)
theorem dX4_init_23 : decode cX4_init 23 = .ok (.newarray .int, 2) := dk_188_10 (dk_at dksX4_init_1 0 rfl rfl)
theorem dX4_init_25 : decode cX4_init 25 = .ok (.putfield 16, 3) := dk_181 0 16 (dk_at dksX4_init_1 2 rfl rfl)
theorem dX4_init_28 : decode cX4_init 28 = .ok (.aload_n 0, 1) := dk_42 (dk_at dksX4_init_1 5 rfl rfl)
theorem dX4_init_29 : decode cX4_init 29 = .ok (.bipush 8, 2) := dk_16 8 (dk_at dksX4_init_1 6 rfl rfl)
theorem dX4_init_31 : decode cX4_init 31 = .ok (.bipush 40, 2) := dk_16 40 (dk_at dksX4_init_1 8 rfl rfl)
theorem dX4_init_33 : decode cX4_init 33 = .ok (.multianewarray 19 2, 4) := by decide +kernel
theorem dX4_init_37 : decode cX4_init 37 = .ok (.putfield 21, 3) := dk_181 0 21 (dk_at dksX4_init_1 14 rfl rfl)
theorem dX4_init_40 : decode cX4_init 40 = .ok (.aload_n 0, 1) := dk_42 (dk_at dksX4_init_1 17 rfl rfl)
theorem dX4_init_41 : decode cX4_init 41 = .ok (.bipush 40, 2) := dk_16 40 (dk_at dksX4_init_1 18 rfl rfl)
theorem dX4_init_43 : decode cX4_init 43 = .ok (.newarray .long, 2) := dk_188_11 (dk_at dksX4_init_1 20 rfl rfl)
theorem dX4_init_45 : decode cX4_init 45 = .ok (.putfield 24, 3) := dk_181 0 24 (dk_at dksX4_init_2 0 rfl rfl)
theorem dX4_init_48 : decode cX4_init 48 = .ok (.aload_n 0, 1) := dk_42 (dk_at dksX4_init_2 3 rfl rfl)
theorem dX4_init_49 : decode cX4_init 49 = .ok (.bipush 8, 2) := dk_16 8 (dk_at dksX4_init_2 4 rfl rfl)
theorem dX4_init_51 : decode cX4_init 51 = .ok (.newarray .int, 2) := dk_188_10 (dk_at dksX4_init_2 6 rfl rfl)
theorem dX4_init_53 : decode cX4_init 53 = .ok (.putfield 28, 3) := dk_181 0 28 (dk_at dksX4_init_2 8 rfl rfl)
theorem dX4_init_56 : decode cX4_init 56 = .ok (.aload_n 0, 1) := dk_42 (dk_at dksX4_init_2 11 rfl rfl)
theorem dX4_init_57 : decode cX4_init 57 = .ok (.bipush 8, 2) := dk_16 8 (dk_at dksX4_init_2 12 rfl rfl)
theorem dX4_init_59 : decode cX4_init 59 = .ok (.newarray .int, 2) := dk_188_10 (dk_at dksX4_init_2 14 rfl rfl)
theorem dX4_init_61 : decode cX4_init 61 = .ok (.putfield 31, 3) := dk_181 0 31 (dk_at dksX4_init_2 16 rfl rfl)
theorem dX4_init_64 : decode cX4_init 64 = .ok (.aload_n 0, 1) := dk_42 (dk_at dksX4_init_2 19 rfl rfl)
theorem dX4_init_65 : decode cX4_init 65 = .ok (.sipush 200, 3) := dk_17 0 200 (dk_at dksX4_init_2 20 rfl rfl)
theorem dX4_init_68 : decode cX4_init 68 = .ok (.newarray .int, 2) := dk_188_10 (dk_at dksX4_init_3 0 rfl rfl)
theorem dX4_init_70 : decode cX4_init 70 = .ok (.putfield 34, 3) := dk_181 0 34 (dk_at dksX4_init_3 2 rfl rfl)
theorem dX4_init_73 : decode cX4_init 73 = .ok (.aload_n 0, 1) := dk_42 (dk_at dksX4_init_3 5 rfl rfl)
theorem dX4_init_74 : decode cX4_init 74 = .ok (.bipush 8, 2) := dk_16 8 (dk_at dksX4_init_3 6 rfl rfl)
theorem dX4_init_76 : decode cX4_init 76 = .ok (.newarray .int, 2) := dk_188_10 (dk_at dksX4_init_3 8 rfl rfl)
theorem dX4_init_78 : decode cX4_init 78 = .ok (.putfield 37, 3) := dk_181 0 37 (dk_at dksX4_init_3 10 rfl rfl)
theorem dX4_init_81 : decode cX4_init 81 = .ok (.aload_n 0, 1) := dk_42 (dk_at dksX4_init_3 13 rfl rfl)
theorem dX4_init_82 : decode cX4_init 82 = .ok (.iconst 3, 1) := dk_6 (dk_at dksX4_init_3 14 rfl rfl)
theorem dX4_init_83 : decode cX4_init 83 = .ok (.newarray .int, 2) := dk_188_10 (dk_at dksX4_init_3 15 rfl rfl)
theorem dX4_init_85 : decode cX4_init 85 = .ok (.dup, 1) := dk_89 (dk_at dksX4_init_3 17 rfl rfl)
theorem dX4_init_86 : decode cX4_init 86 = .ok (.iconst 0, 1) := dk_3 (dk_at dksX4_init_3 18 rfl rfl)
theorem dX4_init_87 : decode cX4_init 87 = .ok (.iconst 2, 1) := dk_5 (dk_at dksX4_init_3 19 rfl rfl)
theorem dX4_init_88 : decode cX4_init 88 = .ok (.iastore, 1) := dk_79 (dk_at dksX4_init_3 20 rfl rfl)
theorem dX4_init_89 : decode cX4_init 89 = .ok (.dup, 1) := dk_89 (dk_at dksX4_init_3 21 rfl rfl)
theorem dX4_init_90 : decode cX4_init 90 = .ok (.iconst 1, 1) := dk_4 (dk_at dksX4_init_3 22 rfl rfl)
theorem dX4_init_91 : decode cX4_init 91 = .ok (.iconst 2, 1) := dk_5 (dk_at dksX4_init_3 23 rfl rfl)
theorem dX4_init_92 : decode cX4_init 92 = .ok (.iastore, 1) := dk_79 (dk_at dksX4_init_4 0 rfl rfl)
theorem dX4_init_93 : decode cX4_init 93 = .ok (.dup, 1) := dk_89 (dk_at dksX4_init_4 1 rfl rfl)
theorem dX4_init_94 : decode cX4_init 94 = .ok (.iconst 2, 1) := dk_5 (dk_at dksX4_init_4 2 rfl rfl)
theorem dX4_init_95 : decode cX4_init 95 = .ok (.iconst 2, 1) := dk_5 (dk_at dksX4_init_4 3 rfl rfl)
theorem dX4_init_96 : decode cX4_init 96 = .ok (.iastore, 1) := dk_79 (dk_at dksX4_init_4 4 rfl rfl)
theorem dX4_init_97 : decode cX4_init 97 = .ok (.putfield 40, 3) := dk_181 0 40 (dk_at dksX4_init_4 5 rfl rfl)
theorem dX4_init_100 : decode cX4_init 100 = .ok (.aload_n 0, 1) := dk_42 (dk_at dksX4_init_4 8 rfl rfl)
theorem dX4_init_101 : decode cX4_init 101 = .ok (.iconst 3, 1) := dk_6 (dk_at dksX4_init_4 9 rfl rfl)
theorem dX4_init_102 : decode cX4_init 102 = .ok (.newarray .int, 2) := dk_188_10 (dk_at dksX4_init_4 10 rfl rfl)
theorem dX4_init_104 : decode cX4_init 104 = .ok (.putfield 43, 3) := dk_181 0 43 (dk_at dksX4_init_4 12 rfl rfl)
theorem dX4_init_107 : decode cX4_init 107 = .ok (.aload_n 0, 1) := dk_42 (dk_at dksX4_init_4 15 rfl rfl)
theorem dX4_init_108 : decode cX4_init 108 = .ok (.iconst 3, 1) := dk_6 (dk_at dksX4_init_4 16 rfl rfl)
theorem dX4_init_109 : decode cX4_init 109 = .ok (.newarray .int, 2) := dk_188_10 (dk_at dksX4_init_4 17 rfl rfl)
theorem dX4_init_111 : decode cX4_init 111 = .ok (.dup, 1) := dk_89 (dk_at dksX4_init_4 19 rfl rfl)
theorem dX4_init_112 : decode cX4_init 112 = .ok (.iconst 0, 1) := dk_3 (dk_at dksX4_init_4 20 rfl rfl)
theorem dX4_init_113 : decode cX4_init 113 = .ok (.iconst 3, 1) := dk_6 (dk_at dksX4_init_4 21 rfl rfl)
theorem dX4_init_114 : decode cX4_init 114 = .ok (.iastore, 1) := dk_79 (dk_at dksX4_init_4 22 rfl rfl)
theorem dX4_init_115 : decode cX4_init 115 = .ok (.dup, 1) := dk_89 (dk_at dksX4_init_4 23 rfl rfl)
theorem dX4_init_116 : decode cX4_init 116 = .ok (.iconst 1, 1) := dk_4 (dk_at dksX4_init_5 0 rfl rfl)
theorem dX4_init_117 : decode cX4_init 117 = .ok (.iconst 3, 1) := dk_6 (dk_at dksX4_init_5 1 rfl rfl)
theorem dX4_init_118 : decode cX4_init 118 = .ok (.iastore, 1) := dk_79 (dk_at dksX4_init_5 2 rfl rfl)
theorem dX4_init_119 : decode cX4_init 119 = .ok (.dup, 1) := dk_89 (dk_at dksX4_init_5 3 rfl rfl)
theorem dX4_init_120 : decode cX4_init 120 = .ok (.iconst 2, 1) := dk_5 (dk_at dksX4_init_5 4 rfl rfl)
theorem dX4_init_121 : decode cX4_init 121 = .ok (.iconst 3, 1) := dk_6 (dk_at dksX4_init_5 5 rfl rfl)
theorem dX4_init_122 : decode cX4_init 122 = .ok (.iastore, 1) := dk_79 (dk_at dksX4_init_5 6 rfl rfl)
theorem dX4_init_123 : decode cX4_init 123 = .ok (.putfield 46, 3) := dk_181 0 46 (dk_at dksX4_init_5 7 rfl rfl)
theorem dX4_init_126 : decode cX4_init 126 = .ok (.aload_n 0, 1) := dk_42 (dk_at dksX4_init_5 10 rfl rfl)
theorem dX4_init_127 : decode cX4_init 127 = .ok (.bipush 6, 2) := dk_16 6 (dk_at dksX4_init_5 11 rfl rfl)
theorem dX4_init_129 : decode cX4_init 129 = .ok (.iconst 4, 1) := dk_7 (dk_at dksX4_init_5 13 rfl rfl)
theorem dX4_init_130 : decode cX4_init 130 = .ok (.multianewarray 49 2, 4) := by decide +kernel
theorem dX4_init_134 : decode cX4_init 134 = .ok (.putfield 51, 3) := dk_181 0 51 (dk_at dksX4_init_5 18 rfl rfl)
theorem dX4_init_137 : decode cX4_init 137 = .ok (.aload_n 0, 1) := dk_42 (dk_at dksX4_init_5 21 rfl rfl)
theorem dX4_init_138 : decode cX4_init 138 = .ok (.iconst 2, 1) := dk_5 (dk_at dksX4_init_5 22 rfl rfl)
theorem dX4_init_139 : decode cX4_init 139 = .ok (.newarray .int, 2) := dk_188_10 (dk_at dksX4_init_6 0 rfl rfl)
theorem dX4_init_141 : decode cX4_init 141 = .ok (.dup, 1) := dk_89 (dk_at dksX4_init_6 2 rfl rfl)
theorem dX4_init_142 : decode cX4_init 142 = .ok (.iconst 0, 1) := dk_3 (dk_at dksX4_init_6 3 rfl rfl)
theorem dX4_init_143 : decode cX4_init 143 = .ok (.iconst 0, 1) := dk_3 (dk_at dksX4_init_6 4 rfl rfl)
theorem dX4_init_144 : decode cX4_init 144 = .ok (.iastore, 1) := dk_79 (dk_at dksX4_init_6 5 rfl rfl)
theorem dX4_init_145 : decode cX4_init 145 = .ok (.dup, 1) := dk_89 (dk_at dksX4_init_6 6 rfl rfl)
theorem dX4_init_146 : decode cX4_init 146 = .ok (.iconst 1, 1) := dk_4 (dk_at dksX4_init_6 7 rfl rfl)
theorem dX4_init_147 : decode cX4_init 147 = .ok (.iconst 5, 1) := dk_8 (dk_at dksX4_init_6 8 rfl rfl)
theorem dX4_init_148 : decode cX4_init 148 = .ok (.iastore, 1) := dk_79 (dk_at dksX4_init_6 9 rfl rfl)
theorem dX4_init_149 : decode cX4_init 149 = .ok (.putfield 54, 3) := dk_181 0 54 (dk_at dksX4_init_6 10 rfl rfl)
theorem dX4_init_152 : decode cX4_init 152 = .ok (.aload_n 0, 1) := dk_42 (dk_at dksX4_init_6 13 rfl rfl)
theorem dX4_init_153 : decode cX4_init 153 = .ok (.bipush 6, 2) := dk_16 6 (dk_at dksX4_init_6 14 rfl rfl)
theorem dX4_init_155 : decode cX4_init 155 = .ok (.newarray .int, 2) := dk_188_10 (dk_at dksX4_init_6 16 rfl rfl)
theorem dX4_init_157 : decode cX4_init 157 = .ok (.putfield 57, 3) := dk_181 0 57 (dk_at dksX4_init_6 18 rfl rfl)
theorem dX4_init_160 : decode cX4_init 160 = .ok (.aload_n 0, 1) := dk_42 (dk_at dksX4_init_6 21 rfl rfl)
theorem dX4_init_161 : decode cX4_init 161 = .ok (.iconst 1, 1) := dk_4 (dk_at dksX4_init_6 22 rfl rfl)
theorem dX4_init_162 : decode cX4_init 162 = .ok (.putfield 60, 3) := dk_181 0 60 (dk_at dksX4_init_7 0 rfl rfl)
theorem dX4_init_165 : decode cX4_init 165 = .ok (.aload_n 0, 1) := dk_42 (dk_at dksX4_init_7 3 rfl rfl)
theorem dX4_init_166 : decode cX4_init 166 = .ok (.iconst 1, 1) := dk_4 (dk_at dksX4_init_7 4 rfl rfl)
theorem dX4_init_167 : decode cX4_init 167 = .ok (.newarray .int, 2) := dk_188_10 (dk_at dksX4_init_7 5 rfl rfl)
theorem dX4_init_169 : decode cX4_init 169 = .ok (.putfield 64, 3) := dk_181 0 64 (dk_at dksX4_init_7 7 rfl rfl)
theorem dX4_init_172 : decode cX4_init 172 = .ok (.aload_n 0, 1) := dk_42 (dk_at dksX4_init_7 10 rfl rfl)
theorem dX4_init_173 : decode cX4_init 173 = .ok (.bipush 6, 2) := dk_16 6 (dk_at dksX4_init_7 11 rfl rfl)
theorem dX4_init_175 : decode cX4_init 175 = .ok (.bipush 125, 2) := dk_16 125 (dk_at dksX4_init_7 13 rfl rfl)
theorem dX4_init_177 : decode cX4_init 177 = .ok (.multianewarray 49 2, 4) := by decide +kernel
theorem dX4_init_181 : decode cX4_init 181 = .ok (.putfield 67, 3) := dk_181 0 67 (dk_at dksX4_init_7 19 rfl rfl)
theorem dX4_init_184 : decode cX4_init 184 = .ok (.aload_n 0, 1) := dk_42 (dk_at dksX4_init_7 22 rfl rfl)
theorem dX4_init_185 : decode cX4_init 185 = .ok (.bipush 25, 2) := dk_16 25 (dk_at dksX4_init_8 0 rfl rfl)
theorem dX4_init_187 : decode cX4_init 187 = .ok (.bipush 125, 2) := dk_16 125 (dk_at dksX4_init_8 2 rfl rfl)
theorem dX4_init_189 : decode cX4_init 189 = .ok (.multianewarray 19 2, 4) := by decide +kernel
theorem dX4_init_193 : decode cX4_init 193 = .ok (.putfield 70, 3) := dk_181 0 70 (dk_at dksX4_init_8 8 rfl rfl)
theorem dX4_init_196 : decode cX4_init 196 = .ok (.aload_n 0, 1) := dk_42 (dk_at dksX4_init_8 11 rfl rfl)
theorem dX4_init_197 : decode cX4_init 197 = .ok (.bipush 125, 2) := dk_16 125 (dk_at dksX4_init_8 12 rfl rfl)
theorem dX4_init_199 : decode cX4_init 199 = .ok (.newarray .long, 2) := dk_188_11 (dk_at dksX4_init_8 14 rfl rfl)
theorem dX4_init_201 : decode cX4_init 201 = .ok (.putfield 73, 3) := dk_181 0 73 (dk_at dksX4_init_8 16 rfl rfl)
theorem dX4_init_204 : decode cX4_init 204 = .ok (.aload_n 0, 1) := dk_42 (dk_at dksX4_init_8 19 rfl rfl)
theorem dX4_init_205 : decode cX4_init 205 = .ok (.bipush 6, 2) := dk_16 6 (dk_at dksX4_init_8 20 rfl rfl)
theorem dX4_init_207 : decode cX4_init 207 = .ok (.newarray .int, 2) := dk_188_10 (dk_at dksX4_init_8 22 rfl rfl)
theorem dX4_init_209 : decode cX4_init 209 = .ok (.putfield 76, 3) := dk_181 0 76 (dk_at dksX4_init_9 0 rfl rfl)
theorem dX4_init_212 : decode cX4_init 212 = .ok (.aload_n 0, 1) := dk_42 (dk_at dksX4_init_9 3 rfl rfl)
theorem dX4_init_213 : decode cX4_init 213 = .ok (.bipush 6, 2) := dk_16 6 (dk_at dksX4_init_9 4 rfl rfl)
theorem dX4_init_215 : decode cX4_init 215 = .ok (.newarray .int, 2) := dk_188_10 (dk_at dksX4_init_9 6 rfl rfl)
theorem dX4_init_217 : decode cX4_init 217 = .ok (.putfield 79, 3) := dk_181 0 79 (dk_at dksX4_init_9 8 rfl rfl)
theorem dX4_init_220 : decode cX4_init 220 = .ok (.aload_n 0, 1) := dk_42 (dk_at dksX4_init_9 11 rfl rfl)
theorem dX4_init_221 : decode cX4_init 221 = .ok (.bipush 6, 2) := dk_16 6 (dk_at dksX4_init_9 12 rfl rfl)
theorem dX4_init_223 : decode cX4_init 223 = .ok (.newarray .int, 2) := dk_188_10 (dk_at dksX4_init_9 14 rfl rfl)
theorem dX4_init_225 : decode cX4_init 225 = .ok (.putfield 82, 3) := dk_181 0 82 (dk_at dksX4_init_9 16 rfl rfl)
theorem dX4_init_228 : decode cX4_init 228 = .ok (.return_, 1) := dk_177 (dk_at dksX4_init_9 19 rfl rfl)
abbrev cX4_row : ByteArray := prog_19_method_12_code
def yX4_row : MethodName := ⟨RX4, "row", "(III)I"⟩
def dkwX4_row_3 : List UInt8 := [162, 0, 19, 42, 180, 0, 21, 27, 50, 21, 4, 9, 80, 132, 4, 1, 167, 255, 236, 4, 172]
abbrev dktX4_row_3 : List UInt8 := dkwX4_row_3 ++ []
def dkwX4_row_2 : List UInt8 := [4, 79, 42, 180, 0, 13, 27, 28, 79, 42, 180, 0, 16, 27, 29, 79, 3, 54, 4, 21, 4, 16, 40]
abbrev dktX4_row_2 : List UInt8 := dkwX4_row_2 ++ dktX4_row_3
def dkwX4_row_1 : List UInt8 := [29, 133, 9, 20, 0, 108, 184, 0, 88, 154, 0, 10, 42, 16, 254, 182, 0, 110, 172, 42, 180, 0, 7, 27]
abbrev dktX4_row_1 : List UInt8 := dkwX4_row_1 ++ dktX4_row_2
def dkwX4_row_0 : List UInt8 := [27, 133, 9, 20, 0, 104, 184, 0, 88, 153, 0, 27, 28, 133, 9, 20, 0, 106, 184, 0, 88, 153, 0, 15]
abbrev dktX4_row_0 : List UInt8 := dkwX4_row_0 ++ dktX4_row_1
theorem dksX4_row_0 : cX4_row.data.toList.drop 0 = dktX4_row_0 := by decide +kernel
theorem dksX4_row_1 : cX4_row.data.toList.drop 24 = dktX4_row_1 := dk_seg dksX4_row_0 24 rfl rfl
theorem dksX4_row_2 : cX4_row.data.toList.drop 48 = dktX4_row_2 := dk_seg dksX4_row_1 24 rfl rfl
theorem dksX4_row_3 : cX4_row.data.toList.drop 71 = dktX4_row_3 := dk_seg dksX4_row_2 23 rfl rfl
theorem dX4_row_0 : decode cX4_row 0 = .ok (.iload_n 1, 1) := dk_27 (dk_at dksX4_row_0 0 rfl rfl)
theorem dX4_row_1 : decode cX4_row 1 = .ok (.i2l, 1) := dk_133 (dk_at dksX4_row_0 1 rfl rfl)
theorem dX4_row_2 : decode cX4_row 2 = .ok (.lconst 0, 1) := dk_9 (dk_at dksX4_row_0 2 rfl rfl)
theorem dX4_row_3 : decode cX4_row 3 = .ok (.ldc2_w 104, 3) := dk_20 0 104 (dk_at dksX4_row_0 3 rfl rfl)
theorem dX4_row_6 : decode cX4_row 6 = .ok (.invokestatic 88, 3) := dk_184 0 88 (dk_at dksX4_row_0 6 rfl rfl)
theorem dX4_row_9 : decode cX4_row 9 = .ok (.ifCond .eq 27, 3) := dk_153 0 27 (dk_at dksX4_row_0 9 rfl rfl)
theorem dX4_row_12 : decode cX4_row 12 = .ok (.iload_n 2, 1) := dk_28 (dk_at dksX4_row_0 12 rfl rfl)
theorem dX4_row_13 : decode cX4_row 13 = .ok (.i2l, 1) := dk_133 (dk_at dksX4_row_0 13 rfl rfl)
theorem dX4_row_14 : decode cX4_row 14 = .ok (.lconst 0, 1) := dk_9 (dk_at dksX4_row_0 14 rfl rfl)
theorem dX4_row_15 : decode cX4_row 15 = .ok (.ldc2_w 106, 3) := dk_20 0 106 (dk_at dksX4_row_0 15 rfl rfl)
theorem dX4_row_18 : decode cX4_row 18 = .ok (.invokestatic 88, 3) := dk_184 0 88 (dk_at dksX4_row_0 18 rfl rfl)
theorem dX4_row_21 : decode cX4_row 21 = .ok (.ifCond .eq 15, 3) := dk_153 0 15 (dk_at dksX4_row_0 21 rfl rfl)
theorem dX4_row_24 : decode cX4_row 24 = .ok (.iload_n 3, 1) := dk_29 (dk_at dksX4_row_1 0 rfl rfl)
theorem dX4_row_25 : decode cX4_row 25 = .ok (.i2l, 1) := dk_133 (dk_at dksX4_row_1 1 rfl rfl)
theorem dX4_row_26 : decode cX4_row 26 = .ok (.lconst 0, 1) := dk_9 (dk_at dksX4_row_1 2 rfl rfl)
theorem dX4_row_27 : decode cX4_row 27 = .ok (.ldc2_w 108, 3) := dk_20 0 108 (dk_at dksX4_row_1 3 rfl rfl)
theorem dX4_row_30 : decode cX4_row 30 = .ok (.invokestatic 88, 3) := dk_184 0 88 (dk_at dksX4_row_1 6 rfl rfl)
theorem dX4_row_33 : decode cX4_row 33 = .ok (.ifCond .ne 10, 3) := dk_154 0 10 (dk_at dksX4_row_1 9 rfl rfl)
theorem dX4_row_36 : decode cX4_row 36 = .ok (.aload_n 0, 1) := dk_42 (dk_at dksX4_row_1 12 rfl rfl)
theorem dX4_row_37 : decode cX4_row 37 = .ok (.bipush (-2), 2) := dk_16 254 (dk_at dksX4_row_1 13 rfl rfl)
theorem dX4_row_39 : decode cX4_row 39 = .ok (.invokevirtual 110, 3) := dk_182 0 110 (dk_at dksX4_row_1 15 rfl rfl)
theorem dX4_row_42 : decode cX4_row 42 = .ok (.ireturn, 1) := dk_172 (dk_at dksX4_row_1 18 rfl rfl)
theorem dX4_row_43 : decode cX4_row 43 = .ok (.aload_n 0, 1) := dk_42 (dk_at dksX4_row_1 19 rfl rfl)
theorem dX4_row_44 : decode cX4_row 44 = .ok (.getfield 7, 3) := dk_180 0 7 (dk_at dksX4_row_1 20 rfl rfl)
theorem dX4_row_47 : decode cX4_row 47 = .ok (.iload_n 1, 1) := dk_27 (dk_at dksX4_row_1 23 rfl rfl)
theorem dX4_row_48 : decode cX4_row 48 = .ok (.iconst 1, 1) := dk_4 (dk_at dksX4_row_2 0 rfl rfl)
theorem dX4_row_49 : decode cX4_row 49 = .ok (.iastore, 1) := dk_79 (dk_at dksX4_row_2 1 rfl rfl)
theorem dX4_row_50 : decode cX4_row 50 = .ok (.aload_n 0, 1) := dk_42 (dk_at dksX4_row_2 2 rfl rfl)
theorem dX4_row_51 : decode cX4_row 51 = .ok (.getfield 13, 3) := dk_180 0 13 (dk_at dksX4_row_2 3 rfl rfl)
theorem dX4_row_54 : decode cX4_row 54 = .ok (.iload_n 1, 1) := dk_27 (dk_at dksX4_row_2 6 rfl rfl)
theorem dX4_row_55 : decode cX4_row 55 = .ok (.iload_n 2, 1) := dk_28 (dk_at dksX4_row_2 7 rfl rfl)
theorem dX4_row_56 : decode cX4_row 56 = .ok (.iastore, 1) := dk_79 (dk_at dksX4_row_2 8 rfl rfl)
theorem dX4_row_57 : decode cX4_row 57 = .ok (.aload_n 0, 1) := dk_42 (dk_at dksX4_row_2 9 rfl rfl)
theorem dX4_row_58 : decode cX4_row 58 = .ok (.getfield 16, 3) := dk_180 0 16 (dk_at dksX4_row_2 10 rfl rfl)
theorem dX4_row_61 : decode cX4_row 61 = .ok (.iload_n 1, 1) := dk_27 (dk_at dksX4_row_2 13 rfl rfl)
theorem dX4_row_62 : decode cX4_row 62 = .ok (.iload_n 3, 1) := dk_29 (dk_at dksX4_row_2 14 rfl rfl)
theorem dX4_row_63 : decode cX4_row 63 = .ok (.iastore, 1) := dk_79 (dk_at dksX4_row_2 15 rfl rfl)
theorem dX4_row_64 : decode cX4_row 64 = .ok (.iconst 0, 1) := dk_3 (dk_at dksX4_row_2 16 rfl rfl)
theorem dX4_row_65 : decode cX4_row 65 = .ok (.istore 4, 2) := dk_54 4 (dk_at dksX4_row_2 17 rfl rfl)
theorem dX4_row_67 : decode cX4_row 67 = .ok (.iload 4, 2) := dk_21 4 (dk_at dksX4_row_2 19 rfl rfl)
theorem dX4_row_69 : decode cX4_row 69 = .ok (.bipush 40, 2) := dk_16 40 (dk_at dksX4_row_2 21 rfl rfl)
theorem dX4_row_71 : decode cX4_row 71 = .ok (.if_icmp .ge 19, 3) := dk_162 0 19 (dk_at dksX4_row_3 0 rfl rfl)
theorem dX4_row_74 : decode cX4_row 74 = .ok (.aload_n 0, 1) := dk_42 (dk_at dksX4_row_3 3 rfl rfl)
theorem dX4_row_75 : decode cX4_row 75 = .ok (.getfield 21, 3) := dk_180 0 21 (dk_at dksX4_row_3 4 rfl rfl)
theorem dX4_row_78 : decode cX4_row 78 = .ok (.iload_n 1, 1) := dk_27 (dk_at dksX4_row_3 7 rfl rfl)
theorem dX4_row_79 : decode cX4_row 79 = .ok (.aaload, 1) := dk_50 (dk_at dksX4_row_3 8 rfl rfl)
theorem dX4_row_80 : decode cX4_row 80 = .ok (.iload 4, 2) := dk_21 4 (dk_at dksX4_row_3 9 rfl rfl)
theorem dX4_row_82 : decode cX4_row 82 = .ok (.lconst 0, 1) := dk_9 (dk_at dksX4_row_3 11 rfl rfl)
theorem dX4_row_83 : decode cX4_row 83 = .ok (.lastore, 1) := dk_80 (dk_at dksX4_row_3 12 rfl rfl)
theorem dX4_row_84 : decode cX4_row 84 = .ok (.iinc 4 1, 3) := dk_132 4 1 (dk_at dksX4_row_3 13 rfl rfl)
theorem dX4_row_87 : decode cX4_row 87 = .ok (.goto (-20), 3) := dk_167 255 236 (dk_at dksX4_row_3 16 rfl rfl)
theorem dX4_row_90 : decode cX4_row 90 = .ok (.iconst 1, 1) := dk_4 (dk_at dksX4_row_3 19 rfl rfl)
theorem dX4_row_91 : decode cX4_row 91 = .ok (.ireturn, 1) := dk_172 (dk_at dksX4_row_3 20 rfl rfl)
abbrev cX4_in : ByteArray := prog_19_method_3_code
def yX4_in : MethodName := ⟨RX4, "in", "(JJJ)Z"⟩
def dkwX4_in_0 : List UInt8 := [30, 32, 148, 155, 0, 14, 30, 22, 4, 148, 157, 0, 7, 4, 167, 0, 4, 3, 172]
abbrev dktX4_in_0 : List UInt8 := dkwX4_in_0 ++ []
theorem dksX4_in_0 : cX4_in.data.toList.drop 0 = dktX4_in_0 := by decide +kernel
theorem dX4_in_0 : decode cX4_in 0 = .ok (.lload_n 0, 1) := dk_30 (dk_at dksX4_in_0 0 rfl rfl)
theorem dX4_in_1 : decode cX4_in 1 = .ok (.lload_n 2, 1) := dk_32 (dk_at dksX4_in_0 1 rfl rfl)
theorem dX4_in_2 : decode cX4_in 2 = .ok (.lcmp, 1) := dk_148 (dk_at dksX4_in_0 2 rfl rfl)
theorem dX4_in_3 : decode cX4_in 3 = .ok (.ifCond .lt 14, 3) := dk_155 0 14 (dk_at dksX4_in_0 3 rfl rfl)
theorem dX4_in_6 : decode cX4_in 6 = .ok (.lload_n 0, 1) := dk_30 (dk_at dksX4_in_0 6 rfl rfl)
theorem dX4_in_7 : decode cX4_in 7 = .ok (.lload 4, 2) := dk_22 4 (dk_at dksX4_in_0 7 rfl rfl)
theorem dX4_in_9 : decode cX4_in 9 = .ok (.lcmp, 1) := dk_148 (dk_at dksX4_in_0 9 rfl rfl)
theorem dX4_in_10 : decode cX4_in 10 = .ok (.ifCond .gt 7, 3) := dk_157 0 7 (dk_at dksX4_in_0 10 rfl rfl)
theorem dX4_in_13 : decode cX4_in 13 = .ok (.iconst 1, 1) := dk_4 (dk_at dksX4_in_0 13 rfl rfl)
theorem dX4_in_14 : decode cX4_in 14 = .ok (.goto 4, 3) := dk_167 0 4 (dk_at dksX4_in_0 14 rfl rfl)
theorem dX4_in_17 : decode cX4_in 17 = .ok (.iconst 0, 1) := dk_3 (dk_at dksX4_in_0 17 rfl rfl)
theorem dX4_in_18 : decode cX4_in 18 = .ok (.ireturn, 1) := dk_172 (dk_at dksX4_in_0 18 rfl rfl)
abbrev cX4_refuse : ByteArray := prog_19_method_2_code
def yX4_refuse : MethodName := ⟨RX4, "refuse", "(I)I"⟩
def dkwX4_refuse_0 : List UInt8 := [42, 180, 0, 37, 27, 116, 92, 46, 4, 96, 79, 27, 172]
abbrev dktX4_refuse_0 : List UInt8 := dkwX4_refuse_0 ++ []
theorem dksX4_refuse_0 : cX4_refuse.data.toList.drop 0 = dktX4_refuse_0 := by decide +kernel
theorem dX4_refuse_0 : decode cX4_refuse 0 = .ok (.aload_n 0, 1) := dk_42 (dk_at dksX4_refuse_0 0 rfl rfl)
theorem dX4_refuse_1 : decode cX4_refuse 1 = .ok (.getfield 37, 3) := dk_180 0 37 (dk_at dksX4_refuse_0 1 rfl rfl)
theorem dX4_refuse_4 : decode cX4_refuse 4 = .ok (.iload_n 1, 1) := dk_27 (dk_at dksX4_refuse_0 4 rfl rfl)
theorem dX4_refuse_5 : decode cX4_refuse 5 = .ok (.ineg, 1) := dk_116 (dk_at dksX4_refuse_0 5 rfl rfl)
theorem dX4_refuse_6 : decode cX4_refuse 6 = .ok (.dup2, 1) := dk_92 (dk_at dksX4_refuse_0 6 rfl rfl)
theorem dX4_refuse_7 : decode cX4_refuse 7 = .ok (.iaload, 1) := dk_46 (dk_at dksX4_refuse_0 7 rfl rfl)
theorem dX4_refuse_8 : decode cX4_refuse 8 = .ok (.iconst 1, 1) := dk_4 (dk_at dksX4_refuse_0 8 rfl rfl)
theorem dX4_refuse_9 : decode cX4_refuse 9 = .ok (.iadd, 1) := dk_96 (dk_at dksX4_refuse_0 9 rfl rfl)
theorem dX4_refuse_10 : decode cX4_refuse 10 = .ok (.iastore, 1) := dk_79 (dk_at dksX4_refuse_0 10 rfl rfl)
theorem dX4_refuse_11 : decode cX4_refuse 11 = .ok (.iload_n 1, 1) := dk_27 (dk_at dksX4_refuse_0 11 rfl rfl)
theorem dX4_refuse_12 : decode cX4_refuse 12 = .ok (.ireturn, 1) := dk_172 (dk_at dksX4_refuse_0 12 rfl rfl)
abbrev cX4_set : ByteArray := prog_19_method_14_code
def yX4_set : MethodName := ⟨RX4, "set", "(IIJ)I"⟩
def dkwX4_set_4 : List UInt8 := [4, 172]
abbrev dktX4_set_4 : List UInt8 := dkwX4_set_4 ++ []
def dkwX4_set_3 : List UInt8 := [16, 254, 182, 0, 110, 172, 42, 180, 0, 21, 27, 50, 28, 42, 180, 0, 13, 27, 46, 33, 184, 0, 114, 80]
abbrev dktX4_set_3 : List UInt8 := dkwX4_set_3 ++ dktX4_set_4
def dkwX4_set_2 : List UInt8 := [182, 0, 110, 172, 28, 133, 9, 42, 180, 0, 16, 27, 46, 4, 100, 133, 184, 0, 88, 154, 0, 10, 42]
abbrev dktX4_set_2 : List UInt8 := dkwX4_set_2 ++ dktX4_set_3
def dkwX4_set_1 : List UInt8 := [46, 5, 160, 0, 10, 42, 16, 253, 182, 0, 110, 172, 42, 180, 0, 7, 27, 46, 154, 0, 10, 42, 16, 252]
abbrev dktX4_set_1 : List UInt8 := dkwX4_set_1 ++ dktX4_set_2
def dkwX4_set_0 : List UInt8 := [27, 133, 9, 20, 0, 104, 184, 0, 88, 154, 0, 10, 42, 16, 254, 182, 0, 110, 172, 42, 180, 0, 7, 27]
abbrev dktX4_set_0 : List UInt8 := dkwX4_set_0 ++ dktX4_set_1
theorem dksX4_set_0 : cX4_set.data.toList.drop 0 = dktX4_set_0 := by decide +kernel
theorem dksX4_set_1 : cX4_set.data.toList.drop 24 = dktX4_set_1 := dk_seg dksX4_set_0 24 rfl rfl
theorem dksX4_set_2 : cX4_set.data.toList.drop 48 = dktX4_set_2 := dk_seg dksX4_set_1 24 rfl rfl
theorem dksX4_set_3 : cX4_set.data.toList.drop 71 = dktX4_set_3 := dk_seg dksX4_set_2 23 rfl rfl
theorem dksX4_set_4 : cX4_set.data.toList.drop 95 = dktX4_set_4 := dk_seg dksX4_set_3 24 rfl rfl
theorem dX4_set_0 : decode cX4_set 0 = .ok (.iload_n 1, 1) := dk_27 (dk_at dksX4_set_0 0 rfl rfl)
theorem dX4_set_1 : decode cX4_set 1 = .ok (.i2l, 1) := dk_133 (dk_at dksX4_set_0 1 rfl rfl)
theorem dX4_set_2 : decode cX4_set 2 = .ok (.lconst 0, 1) := dk_9 (dk_at dksX4_set_0 2 rfl rfl)
theorem dX4_set_3 : decode cX4_set 3 = .ok (.ldc2_w 104, 3) := dk_20 0 104 (dk_at dksX4_set_0 3 rfl rfl)
theorem dX4_set_6 : decode cX4_set 6 = .ok (.invokestatic 88, 3) := dk_184 0 88 (dk_at dksX4_set_0 6 rfl rfl)
theorem dX4_set_9 : decode cX4_set 9 = .ok (.ifCond .ne 10, 3) := dk_154 0 10 (dk_at dksX4_set_0 9 rfl rfl)
theorem dX4_set_12 : decode cX4_set 12 = .ok (.aload_n 0, 1) := dk_42 (dk_at dksX4_set_0 12 rfl rfl)
theorem dX4_set_13 : decode cX4_set 13 = .ok (.bipush (-2), 2) := dk_16 254 (dk_at dksX4_set_0 13 rfl rfl)
theorem dX4_set_15 : decode cX4_set 15 = .ok (.invokevirtual 110, 3) := dk_182 0 110 (dk_at dksX4_set_0 15 rfl rfl)
theorem dX4_set_18 : decode cX4_set 18 = .ok (.ireturn, 1) := dk_172 (dk_at dksX4_set_0 18 rfl rfl)
theorem dX4_set_19 : decode cX4_set 19 = .ok (.aload_n 0, 1) := dk_42 (dk_at dksX4_set_0 19 rfl rfl)
theorem dX4_set_20 : decode cX4_set 20 = .ok (.getfield 7, 3) := dk_180 0 7 (dk_at dksX4_set_0 20 rfl rfl)
theorem dX4_set_23 : decode cX4_set 23 = .ok (.iload_n 1, 1) := dk_27 (dk_at dksX4_set_0 23 rfl rfl)
theorem dX4_set_24 : decode cX4_set 24 = .ok (.iaload, 1) := dk_46 (dk_at dksX4_set_1 0 rfl rfl)
theorem dX4_set_25 : decode cX4_set 25 = .ok (.iconst 2, 1) := dk_5 (dk_at dksX4_set_1 1 rfl rfl)
theorem dX4_set_26 : decode cX4_set 26 = .ok (.if_icmp .ne 10, 3) := dk_160 0 10 (dk_at dksX4_set_1 2 rfl rfl)
theorem dX4_set_29 : decode cX4_set 29 = .ok (.aload_n 0, 1) := dk_42 (dk_at dksX4_set_1 5 rfl rfl)
theorem dX4_set_30 : decode cX4_set 30 = .ok (.bipush (-3), 2) := dk_16 253 (dk_at dksX4_set_1 6 rfl rfl)
theorem dX4_set_32 : decode cX4_set 32 = .ok (.invokevirtual 110, 3) := dk_182 0 110 (dk_at dksX4_set_1 8 rfl rfl)
theorem dX4_set_35 : decode cX4_set 35 = .ok (.ireturn, 1) := dk_172 (dk_at dksX4_set_1 11 rfl rfl)
theorem dX4_set_36 : decode cX4_set 36 = .ok (.aload_n 0, 1) := dk_42 (dk_at dksX4_set_1 12 rfl rfl)
theorem dX4_set_37 : decode cX4_set 37 = .ok (.getfield 7, 3) := dk_180 0 7 (dk_at dksX4_set_1 13 rfl rfl)
theorem dX4_set_40 : decode cX4_set 40 = .ok (.iload_n 1, 1) := dk_27 (dk_at dksX4_set_1 16 rfl rfl)
theorem dX4_set_41 : decode cX4_set 41 = .ok (.iaload, 1) := dk_46 (dk_at dksX4_set_1 17 rfl rfl)
theorem dX4_set_42 : decode cX4_set 42 = .ok (.ifCond .ne 10, 3) := dk_154 0 10 (dk_at dksX4_set_1 18 rfl rfl)
theorem dX4_set_45 : decode cX4_set 45 = .ok (.aload_n 0, 1) := dk_42 (dk_at dksX4_set_1 21 rfl rfl)
theorem dX4_set_46 : decode cX4_set 46 = .ok (.bipush (-4), 2) := dk_16 252 (dk_at dksX4_set_1 22 rfl rfl)
theorem dX4_set_48 : decode cX4_set 48 = .ok (.invokevirtual 110, 3) := dk_182 0 110 (dk_at dksX4_set_2 0 rfl rfl)
theorem dX4_set_51 : decode cX4_set 51 = .ok (.ireturn, 1) := dk_172 (dk_at dksX4_set_2 3 rfl rfl)
theorem dX4_set_52 : decode cX4_set 52 = .ok (.iload_n 2, 1) := dk_28 (dk_at dksX4_set_2 4 rfl rfl)
theorem dX4_set_53 : decode cX4_set 53 = .ok (.i2l, 1) := dk_133 (dk_at dksX4_set_2 5 rfl rfl)
theorem dX4_set_54 : decode cX4_set 54 = .ok (.lconst 0, 1) := dk_9 (dk_at dksX4_set_2 6 rfl rfl)
theorem dX4_set_55 : decode cX4_set 55 = .ok (.aload_n 0, 1) := dk_42 (dk_at dksX4_set_2 7 rfl rfl)
theorem dX4_set_56 : decode cX4_set 56 = .ok (.getfield 16, 3) := dk_180 0 16 (dk_at dksX4_set_2 8 rfl rfl)
theorem dX4_set_59 : decode cX4_set 59 = .ok (.iload_n 1, 1) := dk_27 (dk_at dksX4_set_2 11 rfl rfl)
theorem dX4_set_60 : decode cX4_set 60 = .ok (.iaload, 1) := dk_46 (dk_at dksX4_set_2 12 rfl rfl)
theorem dX4_set_61 : decode cX4_set 61 = .ok (.iconst 1, 1) := dk_4 (dk_at dksX4_set_2 13 rfl rfl)
theorem dX4_set_62 : decode cX4_set 62 = .ok (.isub, 1) := dk_100 (dk_at dksX4_set_2 14 rfl rfl)
theorem dX4_set_63 : decode cX4_set 63 = .ok (.i2l, 1) := dk_133 (dk_at dksX4_set_2 15 rfl rfl)
theorem dX4_set_64 : decode cX4_set 64 = .ok (.invokestatic 88, 3) := dk_184 0 88 (dk_at dksX4_set_2 16 rfl rfl)
theorem dX4_set_67 : decode cX4_set 67 = .ok (.ifCond .ne 10, 3) := dk_154 0 10 (dk_at dksX4_set_2 19 rfl rfl)
theorem dX4_set_70 : decode cX4_set 70 = .ok (.aload_n 0, 1) := dk_42 (dk_at dksX4_set_2 22 rfl rfl)
theorem dX4_set_71 : decode cX4_set 71 = .ok (.bipush (-2), 2) := dk_16 254 (dk_at dksX4_set_3 0 rfl rfl)
theorem dX4_set_73 : decode cX4_set 73 = .ok (.invokevirtual 110, 3) := dk_182 0 110 (dk_at dksX4_set_3 2 rfl rfl)
theorem dX4_set_76 : decode cX4_set 76 = .ok (.ireturn, 1) := dk_172 (dk_at dksX4_set_3 5 rfl rfl)
theorem dX4_set_77 : decode cX4_set 77 = .ok (.aload_n 0, 1) := dk_42 (dk_at dksX4_set_3 6 rfl rfl)
theorem dX4_set_78 : decode cX4_set 78 = .ok (.getfield 21, 3) := dk_180 0 21 (dk_at dksX4_set_3 7 rfl rfl)
theorem dX4_set_81 : decode cX4_set 81 = .ok (.iload_n 1, 1) := dk_27 (dk_at dksX4_set_3 10 rfl rfl)
theorem dX4_set_82 : decode cX4_set 82 = .ok (.aaload, 1) := dk_50 (dk_at dksX4_set_3 11 rfl rfl)
theorem dX4_set_83 : decode cX4_set 83 = .ok (.iload_n 2, 1) := dk_28 (dk_at dksX4_set_3 12 rfl rfl)
theorem dX4_set_84 : decode cX4_set 84 = .ok (.aload_n 0, 1) := dk_42 (dk_at dksX4_set_3 13 rfl rfl)
theorem dX4_set_85 : decode cX4_set 85 = .ok (.getfield 13, 3) := dk_180 0 13 (dk_at dksX4_set_3 14 rfl rfl)
theorem dX4_set_88 : decode cX4_set 88 = .ok (.iload_n 1, 1) := dk_27 (dk_at dksX4_set_3 17 rfl rfl)
theorem dX4_set_89 : decode cX4_set 89 = .ok (.iaload, 1) := dk_46 (dk_at dksX4_set_3 18 rfl rfl)
theorem dX4_set_90 : decode cX4_set 90 = .ok (.lload_n 3, 1) := dk_33 (dk_at dksX4_set_3 19 rfl rfl)
theorem dX4_set_91 : decode cX4_set 91 = .ok (.invokestatic 114, 3) := dk_184 0 114 (dk_at dksX4_set_3 20 rfl rfl)
theorem dX4_set_94 : decode cX4_set 94 = .ok (.lastore, 1) := dk_80 (dk_at dksX4_set_3 23 rfl rfl)
theorem dX4_set_95 : decode cX4_set 95 = .ok (.iconst 1, 1) := dk_4 (dk_at dksX4_set_4 0 rfl rfl)
theorem dX4_set_96 : decode cX4_set 96 = .ok (.ireturn, 1) := dk_172 (dk_at dksX4_set_4 1 rfl rfl)
abbrev cX4_fit : ByteArray := prog_19_method_13_code
def yX4_fit : MethodName := ⟨RX4, "fit", "(IJ)J"⟩
def dkwX4_fit_3 : List UInt8 := [167, 0, 4, 9, 173]
abbrev dktX4_fit_3 : List UInt8 := dkwX4_fit_3 ++ []
def dkwX4_fit_2 : List UInt8 := [31, 136, 145, 133, 173, 31, 136, 147, 133, 173, 31, 136, 133, 173, 31, 173, 31, 9, 148, 153, 0, 7, 10]
abbrev dktX4_fit_2 : List UInt8 := dkwX4_fit_2 ++ dktX4_fit_3
def dkwX4_fit_1 : List UInt8 := [170, 0, 0, 0, 0, 0, 47, 0, 0, 0, 0, 0, 0, 0, 3, 0, 0, 0, 31, 0, 0, 0, 36, 0, 0, 0, 41, 0, 0, 0, 45]
abbrev dktX4_fit_1 : List UInt8 := dkwX4_fit_1 ++ dktX4_fit_2
def dkwX4_fit_0 : List UInt8 := [26]
abbrev dktX4_fit_0 : List UInt8 := dkwX4_fit_0 ++ dktX4_fit_1
theorem dksX4_fit_0 : cX4_fit.data.toList.drop 0 = dktX4_fit_0 := by decide +kernel
theorem dksX4_fit_1 : cX4_fit.data.toList.drop 1 = dktX4_fit_1 := dk_seg dksX4_fit_0 1 rfl rfl
theorem dksX4_fit_2 : cX4_fit.data.toList.drop 32 = dktX4_fit_2 := dk_seg dksX4_fit_1 31 rfl rfl
theorem dksX4_fit_3 : cX4_fit.data.toList.drop 55 = dktX4_fit_3 := dk_seg dksX4_fit_2 23 rfl rfl
theorem dX4_fit_0 : decode cX4_fit 0 = .ok (.iload_n 0, 1) := dk_26 (dk_at dksX4_fit_0 0 rfl rfl)
theorem dX4_fit_1 : decode cX4_fit 1 = .ok (.tableswitch 47 0 3 #[31, 36, 41, 45], 31) := by decide +kernel
theorem dX4_fit_32 : decode cX4_fit 32 = .ok (.lload_n 1, 1) := dk_31 (dk_at dksX4_fit_2 0 rfl rfl)
theorem dX4_fit_33 : decode cX4_fit 33 = .ok (.l2i, 1) := dk_136 (dk_at dksX4_fit_2 1 rfl rfl)
theorem dX4_fit_34 : decode cX4_fit 34 = .ok (.i2b, 1) := dk_145 (dk_at dksX4_fit_2 2 rfl rfl)
theorem dX4_fit_35 : decode cX4_fit 35 = .ok (.i2l, 1) := dk_133 (dk_at dksX4_fit_2 3 rfl rfl)
theorem dX4_fit_36 : decode cX4_fit 36 = .ok (.lreturn, 1) := dk_173 (dk_at dksX4_fit_2 4 rfl rfl)
theorem dX4_fit_37 : decode cX4_fit 37 = .ok (.lload_n 1, 1) := dk_31 (dk_at dksX4_fit_2 5 rfl rfl)
theorem dX4_fit_38 : decode cX4_fit 38 = .ok (.l2i, 1) := dk_136 (dk_at dksX4_fit_2 6 rfl rfl)
theorem dX4_fit_39 : decode cX4_fit 39 = .ok (.i2s, 1) := dk_147 (dk_at dksX4_fit_2 7 rfl rfl)
theorem dX4_fit_40 : decode cX4_fit 40 = .ok (.i2l, 1) := dk_133 (dk_at dksX4_fit_2 8 rfl rfl)
theorem dX4_fit_41 : decode cX4_fit 41 = .ok (.lreturn, 1) := dk_173 (dk_at dksX4_fit_2 9 rfl rfl)
theorem dX4_fit_42 : decode cX4_fit 42 = .ok (.lload_n 1, 1) := dk_31 (dk_at dksX4_fit_2 10 rfl rfl)
theorem dX4_fit_43 : decode cX4_fit 43 = .ok (.l2i, 1) := dk_136 (dk_at dksX4_fit_2 11 rfl rfl)
theorem dX4_fit_44 : decode cX4_fit 44 = .ok (.i2l, 1) := dk_133 (dk_at dksX4_fit_2 12 rfl rfl)
theorem dX4_fit_45 : decode cX4_fit 45 = .ok (.lreturn, 1) := dk_173 (dk_at dksX4_fit_2 13 rfl rfl)
theorem dX4_fit_46 : decode cX4_fit 46 = .ok (.lload_n 1, 1) := dk_31 (dk_at dksX4_fit_2 14 rfl rfl)
theorem dX4_fit_47 : decode cX4_fit 47 = .ok (.lreturn, 1) := dk_173 (dk_at dksX4_fit_2 15 rfl rfl)
theorem dX4_fit_48 : decode cX4_fit 48 = .ok (.lload_n 1, 1) := dk_31 (dk_at dksX4_fit_2 16 rfl rfl)
theorem dX4_fit_49 : decode cX4_fit 49 = .ok (.lconst 0, 1) := dk_9 (dk_at dksX4_fit_2 17 rfl rfl)
theorem dX4_fit_50 : decode cX4_fit 50 = .ok (.lcmp, 1) := dk_148 (dk_at dksX4_fit_2 18 rfl rfl)
theorem dX4_fit_51 : decode cX4_fit 51 = .ok (.ifCond .eq 7, 3) := dk_153 0 7 (dk_at dksX4_fit_2 19 rfl rfl)
theorem dX4_fit_54 : decode cX4_fit 54 = .ok (.lconst 1, 1) := dk_10 (dk_at dksX4_fit_2 22 rfl rfl)
theorem dX4_fit_55 : decode cX4_fit 55 = .ok (.goto 4, 3) := dk_167 0 4 (dk_at dksX4_fit_3 0 rfl rfl)
theorem dX4_fit_58 : decode cX4_fit 58 = .ok (.lconst 0, 1) := dk_9 (dk_at dksX4_fit_3 3 rfl rfl)
theorem dX4_fit_59 : decode cX4_fit 59 = .ok (.lreturn, 1) := dk_173 (dk_at dksX4_fit_3 4 rfl rfl)
abbrev cX4_copy : ByteArray := prog_19_method_15_code
def yX4_copy : MethodName := ⟨RX4, "copy", "(IIIII)I"⟩
def dkwX4_copy_11 : List UInt8 := [21, 5, 172]
abbrev dktX4_copy_11 : List UInt8 := dkwX4_copy_11 ++ []
def dkwX4_copy_10 : List UInt8 := [180, 0, 21, 28, 50, 21, 4, 21, 6, 96, 42, 180, 0, 24, 21, 6, 47, 80, 132, 6, 1, 167, 255, 227]
abbrev dktX4_copy_10 : List UInt8 := dkwX4_copy_10 ++ dktX4_copy_11
def dkwX4_copy_9 : List UInt8 := [21, 6, 96, 47, 80, 132, 6, 1, 167, 255, 228, 3, 54, 6, 21, 6, 21, 5, 162, 0, 28, 42]
abbrev dktX4_copy_9 : List UInt8 := dkwX4_copy_9 ++ dktX4_copy_10
def dkwX4_copy_8 : List UInt8 := [3, 54, 6, 21, 6, 21, 5, 162, 0, 27, 42, 180, 0, 24, 21, 6, 42, 180, 0, 21, 27, 50, 29]
abbrev dktX4_copy_8 : List UInt8 := dkwX4_copy_8 ++ dktX4_copy_9
def dkwX4_copy_7 : List UInt8 := [163, 0, 17, 21, 4, 42, 180, 0, 16, 28, 46, 21, 5, 100, 164, 0, 10, 42, 16, 254, 182, 0, 110, 172]
abbrev dktX4_copy_7 : List UInt8 := dkwX4_copy_7 ++ dktX4_copy_8
def dkwX4_copy_6 : List UInt8 := [163, 0, 41, 21, 5, 42, 180, 0, 16, 28, 46, 163, 0, 30, 29, 42, 180, 0, 16, 27, 46, 21, 5, 100]
abbrev dktX4_copy_6 : List UInt8 := dkwX4_copy_6 ++ dktX4_copy_7
def dkwX4_copy_5 : List UInt8 := [21, 5, 155, 0, 61, 29, 155, 0, 57, 21, 4, 155, 0, 52, 21, 5, 42, 180, 0, 16, 27, 46]
abbrev dktX4_copy_5 : List UInt8 := dkwX4_copy_5 ++ dktX4_copy_6
def dkwX4_copy_4 : List UInt8 := [180, 0, 7, 27, 46, 153, 0, 12, 42, 180, 0, 7, 28, 46, 154, 0, 10, 42, 16, 252, 182, 0, 110, 172]
abbrev dktX4_copy_4 : List UInt8 := dkwX4_copy_4 ++ dktX4_copy_5
def dkwX4_copy_3 : List UInt8 := [180, 0, 13, 27, 46, 42, 180, 0, 13, 28, 46, 159, 0, 10, 42, 16, 253, 182, 0, 110, 172, 42]
abbrev dktX4_copy_3 : List UInt8 := dkwX4_copy_3 ++ dktX4_copy_4
def dkwX4_copy_2 : List UInt8 := [159, 0, 38, 42, 180, 0, 7, 27, 46, 4, 160, 0, 35, 42, 180, 0, 7, 28, 46, 4, 160, 0, 25, 42]
abbrev dktX4_copy_2 : List UInt8 := dkwX4_copy_2 ++ dktX4_copy_3
def dkwX4_copy_1 : List UInt8 := [42, 16, 254, 182, 0, 110, 172, 42, 180, 0, 7, 27, 46, 5, 159, 0, 48, 42, 180, 0, 7, 28, 46, 5]
abbrev dktX4_copy_1 : List UInt8 := dkwX4_copy_1 ++ dktX4_copy_2
def dkwX4_copy_0 : List UInt8 := [27, 133, 9, 20, 0, 104, 184, 0, 88, 153, 0, 15, 28, 133, 9, 20, 0, 104, 184, 0, 88, 154, 0, 10]
abbrev dktX4_copy_0 : List UInt8 := dkwX4_copy_0 ++ dktX4_copy_1
theorem dksX4_copy_0 : cX4_copy.data.toList.drop 0 = dktX4_copy_0 := by decide +kernel
theorem dksX4_copy_1 : cX4_copy.data.toList.drop 24 = dktX4_copy_1 := dk_seg dksX4_copy_0 24 rfl rfl
theorem dksX4_copy_2 : cX4_copy.data.toList.drop 48 = dktX4_copy_2 := dk_seg dksX4_copy_1 24 rfl rfl
theorem dksX4_copy_3 : cX4_copy.data.toList.drop 72 = dktX4_copy_3 := dk_seg dksX4_copy_2 24 rfl rfl
theorem dksX4_copy_4 : cX4_copy.data.toList.drop 94 = dktX4_copy_4 := dk_seg dksX4_copy_3 22 rfl rfl
theorem dksX4_copy_5 : cX4_copy.data.toList.drop 118 = dktX4_copy_5 := dk_seg dksX4_copy_4 24 rfl rfl
theorem dksX4_copy_6 : cX4_copy.data.toList.drop 140 = dktX4_copy_6 := dk_seg dksX4_copy_5 22 rfl rfl
theorem dksX4_copy_7 : cX4_copy.data.toList.drop 164 = dktX4_copy_7 := dk_seg dksX4_copy_6 24 rfl rfl
theorem dksX4_copy_8 : cX4_copy.data.toList.drop 188 = dktX4_copy_8 := dk_seg dksX4_copy_7 24 rfl rfl
theorem dksX4_copy_9 : cX4_copy.data.toList.drop 211 = dktX4_copy_9 := dk_seg dksX4_copy_8 23 rfl rfl
theorem dksX4_copy_10 : cX4_copy.data.toList.drop 233 = dktX4_copy_10 := dk_seg dksX4_copy_9 22 rfl rfl
theorem dksX4_copy_11 : cX4_copy.data.toList.drop 257 = dktX4_copy_11 := dk_seg dksX4_copy_10 24 rfl rfl
theorem dX4_copy_0 : decode cX4_copy 0 = .ok (.iload_n 1, 1) := dk_27 (dk_at dksX4_copy_0 0 rfl rfl)
theorem dX4_copy_1 : decode cX4_copy 1 = .ok (.i2l, 1) := dk_133 (dk_at dksX4_copy_0 1 rfl rfl)
theorem dX4_copy_2 : decode cX4_copy 2 = .ok (.lconst 0, 1) := dk_9 (dk_at dksX4_copy_0 2 rfl rfl)
theorem dX4_copy_3 : decode cX4_copy 3 = .ok (.ldc2_w 104, 3) := dk_20 0 104 (dk_at dksX4_copy_0 3 rfl rfl)
theorem dX4_copy_6 : decode cX4_copy 6 = .ok (.invokestatic 88, 3) := dk_184 0 88 (dk_at dksX4_copy_0 6 rfl rfl)
theorem dX4_copy_9 : decode cX4_copy 9 = .ok (.ifCond .eq 15, 3) := dk_153 0 15 (dk_at dksX4_copy_0 9 rfl rfl)
theorem dX4_copy_12 : decode cX4_copy 12 = .ok (.iload_n 2, 1) := dk_28 (dk_at dksX4_copy_0 12 rfl rfl)
theorem dX4_copy_13 : decode cX4_copy 13 = .ok (.i2l, 1) := dk_133 (dk_at dksX4_copy_0 13 rfl rfl)
theorem dX4_copy_14 : decode cX4_copy 14 = .ok (.lconst 0, 1) := dk_9 (dk_at dksX4_copy_0 14 rfl rfl)
theorem dX4_copy_15 : decode cX4_copy 15 = .ok (.ldc2_w 104, 3) := dk_20 0 104 (dk_at dksX4_copy_0 15 rfl rfl)
theorem dX4_copy_18 : decode cX4_copy 18 = .ok (.invokestatic 88, 3) := dk_184 0 88 (dk_at dksX4_copy_0 18 rfl rfl)
theorem dX4_copy_21 : decode cX4_copy 21 = .ok (.ifCond .ne 10, 3) := dk_154 0 10 (dk_at dksX4_copy_0 21 rfl rfl)
theorem dX4_copy_24 : decode cX4_copy 24 = .ok (.aload_n 0, 1) := dk_42 (dk_at dksX4_copy_1 0 rfl rfl)
theorem dX4_copy_25 : decode cX4_copy 25 = .ok (.bipush (-2), 2) := dk_16 254 (dk_at dksX4_copy_1 1 rfl rfl)
theorem dX4_copy_27 : decode cX4_copy 27 = .ok (.invokevirtual 110, 3) := dk_182 0 110 (dk_at dksX4_copy_1 3 rfl rfl)
theorem dX4_copy_30 : decode cX4_copy 30 = .ok (.ireturn, 1) := dk_172 (dk_at dksX4_copy_1 6 rfl rfl)
theorem dX4_copy_31 : decode cX4_copy 31 = .ok (.aload_n 0, 1) := dk_42 (dk_at dksX4_copy_1 7 rfl rfl)
theorem dX4_copy_32 : decode cX4_copy 32 = .ok (.getfield 7, 3) := dk_180 0 7 (dk_at dksX4_copy_1 8 rfl rfl)
theorem dX4_copy_35 : decode cX4_copy 35 = .ok (.iload_n 1, 1) := dk_27 (dk_at dksX4_copy_1 11 rfl rfl)
theorem dX4_copy_36 : decode cX4_copy 36 = .ok (.iaload, 1) := dk_46 (dk_at dksX4_copy_1 12 rfl rfl)
theorem dX4_copy_37 : decode cX4_copy 37 = .ok (.iconst 2, 1) := dk_5 (dk_at dksX4_copy_1 13 rfl rfl)
theorem dX4_copy_38 : decode cX4_copy 38 = .ok (.if_icmp .eq 48, 3) := dk_159 0 48 (dk_at dksX4_copy_1 14 rfl rfl)
theorem dX4_copy_41 : decode cX4_copy 41 = .ok (.aload_n 0, 1) := dk_42 (dk_at dksX4_copy_1 17 rfl rfl)
theorem dX4_copy_42 : decode cX4_copy 42 = .ok (.getfield 7, 3) := dk_180 0 7 (dk_at dksX4_copy_1 18 rfl rfl)
theorem dX4_copy_45 : decode cX4_copy 45 = .ok (.iload_n 2, 1) := dk_28 (dk_at dksX4_copy_1 21 rfl rfl)
theorem dX4_copy_46 : decode cX4_copy 46 = .ok (.iaload, 1) := dk_46 (dk_at dksX4_copy_1 22 rfl rfl)
theorem dX4_copy_47 : decode cX4_copy 47 = .ok (.iconst 2, 1) := dk_5 (dk_at dksX4_copy_1 23 rfl rfl)
theorem dX4_copy_48 : decode cX4_copy 48 = .ok (.if_icmp .eq 38, 3) := dk_159 0 38 (dk_at dksX4_copy_2 0 rfl rfl)
theorem dX4_copy_51 : decode cX4_copy 51 = .ok (.aload_n 0, 1) := dk_42 (dk_at dksX4_copy_2 3 rfl rfl)
theorem dX4_copy_52 : decode cX4_copy 52 = .ok (.getfield 7, 3) := dk_180 0 7 (dk_at dksX4_copy_2 4 rfl rfl)
theorem dX4_copy_55 : decode cX4_copy 55 = .ok (.iload_n 1, 1) := dk_27 (dk_at dksX4_copy_2 7 rfl rfl)
theorem dX4_copy_56 : decode cX4_copy 56 = .ok (.iaload, 1) := dk_46 (dk_at dksX4_copy_2 8 rfl rfl)
theorem dX4_copy_57 : decode cX4_copy 57 = .ok (.iconst 1, 1) := dk_4 (dk_at dksX4_copy_2 9 rfl rfl)
theorem dX4_copy_58 : decode cX4_copy 58 = .ok (.if_icmp .ne 35, 3) := dk_160 0 35 (dk_at dksX4_copy_2 10 rfl rfl)
theorem dX4_copy_61 : decode cX4_copy 61 = .ok (.aload_n 0, 1) := dk_42 (dk_at dksX4_copy_2 13 rfl rfl)
theorem dX4_copy_62 : decode cX4_copy 62 = .ok (.getfield 7, 3) := dk_180 0 7 (dk_at dksX4_copy_2 14 rfl rfl)
theorem dX4_copy_65 : decode cX4_copy 65 = .ok (.iload_n 2, 1) := dk_28 (dk_at dksX4_copy_2 17 rfl rfl)
theorem dX4_copy_66 : decode cX4_copy 66 = .ok (.iaload, 1) := dk_46 (dk_at dksX4_copy_2 18 rfl rfl)
theorem dX4_copy_67 : decode cX4_copy 67 = .ok (.iconst 1, 1) := dk_4 (dk_at dksX4_copy_2 19 rfl rfl)
theorem dX4_copy_68 : decode cX4_copy 68 = .ok (.if_icmp .ne 25, 3) := dk_160 0 25 (dk_at dksX4_copy_2 20 rfl rfl)
theorem dX4_copy_71 : decode cX4_copy 71 = .ok (.aload_n 0, 1) := dk_42 (dk_at dksX4_copy_2 23 rfl rfl)
theorem dX4_copy_72 : decode cX4_copy 72 = .ok (.getfield 13, 3) := dk_180 0 13 (dk_at dksX4_copy_3 0 rfl rfl)
theorem dX4_copy_75 : decode cX4_copy 75 = .ok (.iload_n 1, 1) := dk_27 (dk_at dksX4_copy_3 3 rfl rfl)
theorem dX4_copy_76 : decode cX4_copy 76 = .ok (.iaload, 1) := dk_46 (dk_at dksX4_copy_3 4 rfl rfl)
theorem dX4_copy_77 : decode cX4_copy 77 = .ok (.aload_n 0, 1) := dk_42 (dk_at dksX4_copy_3 5 rfl rfl)
theorem dX4_copy_78 : decode cX4_copy 78 = .ok (.getfield 13, 3) := dk_180 0 13 (dk_at dksX4_copy_3 6 rfl rfl)
theorem dX4_copy_81 : decode cX4_copy 81 = .ok (.iload_n 2, 1) := dk_28 (dk_at dksX4_copy_3 9 rfl rfl)
theorem dX4_copy_82 : decode cX4_copy 82 = .ok (.iaload, 1) := dk_46 (dk_at dksX4_copy_3 10 rfl rfl)
theorem dX4_copy_83 : decode cX4_copy 83 = .ok (.if_icmp .eq 10, 3) := dk_159 0 10 (dk_at dksX4_copy_3 11 rfl rfl)
theorem dX4_copy_86 : decode cX4_copy 86 = .ok (.aload_n 0, 1) := dk_42 (dk_at dksX4_copy_3 14 rfl rfl)
theorem dX4_copy_87 : decode cX4_copy 87 = .ok (.bipush (-3), 2) := dk_16 253 (dk_at dksX4_copy_3 15 rfl rfl)
theorem dX4_copy_89 : decode cX4_copy 89 = .ok (.invokevirtual 110, 3) := dk_182 0 110 (dk_at dksX4_copy_3 17 rfl rfl)
theorem dX4_copy_92 : decode cX4_copy 92 = .ok (.ireturn, 1) := dk_172 (dk_at dksX4_copy_3 20 rfl rfl)
theorem dX4_copy_93 : decode cX4_copy 93 = .ok (.aload_n 0, 1) := dk_42 (dk_at dksX4_copy_3 21 rfl rfl)
theorem dX4_copy_94 : decode cX4_copy 94 = .ok (.getfield 7, 3) := dk_180 0 7 (dk_at dksX4_copy_4 0 rfl rfl)
theorem dX4_copy_97 : decode cX4_copy 97 = .ok (.iload_n 1, 1) := dk_27 (dk_at dksX4_copy_4 3 rfl rfl)
theorem dX4_copy_98 : decode cX4_copy 98 = .ok (.iaload, 1) := dk_46 (dk_at dksX4_copy_4 4 rfl rfl)
theorem dX4_copy_99 : decode cX4_copy 99 = .ok (.ifCond .eq 12, 3) := dk_153 0 12 (dk_at dksX4_copy_4 5 rfl rfl)
theorem dX4_copy_102 : decode cX4_copy 102 = .ok (.aload_n 0, 1) := dk_42 (dk_at dksX4_copy_4 8 rfl rfl)
theorem dX4_copy_103 : decode cX4_copy 103 = .ok (.getfield 7, 3) := dk_180 0 7 (dk_at dksX4_copy_4 9 rfl rfl)
theorem dX4_copy_106 : decode cX4_copy 106 = .ok (.iload_n 2, 1) := dk_28 (dk_at dksX4_copy_4 12 rfl rfl)
theorem dX4_copy_107 : decode cX4_copy 107 = .ok (.iaload, 1) := dk_46 (dk_at dksX4_copy_4 13 rfl rfl)
theorem dX4_copy_108 : decode cX4_copy 108 = .ok (.ifCond .ne 10, 3) := dk_154 0 10 (dk_at dksX4_copy_4 14 rfl rfl)
theorem dX4_copy_111 : decode cX4_copy 111 = .ok (.aload_n 0, 1) := dk_42 (dk_at dksX4_copy_4 17 rfl rfl)
theorem dX4_copy_112 : decode cX4_copy 112 = .ok (.bipush (-4), 2) := dk_16 252 (dk_at dksX4_copy_4 18 rfl rfl)
theorem dX4_copy_114 : decode cX4_copy 114 = .ok (.invokevirtual 110, 3) := dk_182 0 110 (dk_at dksX4_copy_4 20 rfl rfl)
theorem dX4_copy_117 : decode cX4_copy 117 = .ok (.ireturn, 1) := dk_172 (dk_at dksX4_copy_4 23 rfl rfl)
theorem dX4_copy_118 : decode cX4_copy 118 = .ok (.iload 5, 2) := dk_21 5 (dk_at dksX4_copy_5 0 rfl rfl)
theorem dX4_copy_120 : decode cX4_copy 120 = .ok (.ifCond .lt 61, 3) := dk_155 0 61 (dk_at dksX4_copy_5 2 rfl rfl)
theorem dX4_copy_123 : decode cX4_copy 123 = .ok (.iload_n 3, 1) := dk_29 (dk_at dksX4_copy_5 5 rfl rfl)
theorem dX4_copy_124 : decode cX4_copy 124 = .ok (.ifCond .lt 57, 3) := dk_155 0 57 (dk_at dksX4_copy_5 6 rfl rfl)
theorem dX4_copy_127 : decode cX4_copy 127 = .ok (.iload 4, 2) := dk_21 4 (dk_at dksX4_copy_5 9 rfl rfl)
theorem dX4_copy_129 : decode cX4_copy 129 = .ok (.ifCond .lt 52, 3) := dk_155 0 52 (dk_at dksX4_copy_5 11 rfl rfl)
theorem dX4_copy_132 : decode cX4_copy 132 = .ok (.iload 5, 2) := dk_21 5 (dk_at dksX4_copy_5 14 rfl rfl)
theorem dX4_copy_134 : decode cX4_copy 134 = .ok (.aload_n 0, 1) := dk_42 (dk_at dksX4_copy_5 16 rfl rfl)
theorem dX4_copy_135 : decode cX4_copy 135 = .ok (.getfield 16, 3) := dk_180 0 16 (dk_at dksX4_copy_5 17 rfl rfl)
theorem dX4_copy_138 : decode cX4_copy 138 = .ok (.iload_n 1, 1) := dk_27 (dk_at dksX4_copy_5 20 rfl rfl)
theorem dX4_copy_139 : decode cX4_copy 139 = .ok (.iaload, 1) := dk_46 (dk_at dksX4_copy_5 21 rfl rfl)
theorem dX4_copy_140 : decode cX4_copy 140 = .ok (.if_icmp .gt 41, 3) := dk_163 0 41 (dk_at dksX4_copy_6 0 rfl rfl)
theorem dX4_copy_143 : decode cX4_copy 143 = .ok (.iload 5, 2) := dk_21 5 (dk_at dksX4_copy_6 3 rfl rfl)
theorem dX4_copy_145 : decode cX4_copy 145 = .ok (.aload_n 0, 1) := dk_42 (dk_at dksX4_copy_6 5 rfl rfl)
theorem dX4_copy_146 : decode cX4_copy 146 = .ok (.getfield 16, 3) := dk_180 0 16 (dk_at dksX4_copy_6 6 rfl rfl)
theorem dX4_copy_149 : decode cX4_copy 149 = .ok (.iload_n 2, 1) := dk_28 (dk_at dksX4_copy_6 9 rfl rfl)
theorem dX4_copy_150 : decode cX4_copy 150 = .ok (.iaload, 1) := dk_46 (dk_at dksX4_copy_6 10 rfl rfl)
theorem dX4_copy_151 : decode cX4_copy 151 = .ok (.if_icmp .gt 30, 3) := dk_163 0 30 (dk_at dksX4_copy_6 11 rfl rfl)
theorem dX4_copy_154 : decode cX4_copy 154 = .ok (.iload_n 3, 1) := dk_29 (dk_at dksX4_copy_6 14 rfl rfl)
theorem dX4_copy_155 : decode cX4_copy 155 = .ok (.aload_n 0, 1) := dk_42 (dk_at dksX4_copy_6 15 rfl rfl)
theorem dX4_copy_156 : decode cX4_copy 156 = .ok (.getfield 16, 3) := dk_180 0 16 (dk_at dksX4_copy_6 16 rfl rfl)
theorem dX4_copy_159 : decode cX4_copy 159 = .ok (.iload_n 1, 1) := dk_27 (dk_at dksX4_copy_6 19 rfl rfl)
theorem dX4_copy_160 : decode cX4_copy 160 = .ok (.iaload, 1) := dk_46 (dk_at dksX4_copy_6 20 rfl rfl)
theorem dX4_copy_161 : decode cX4_copy 161 = .ok (.iload 5, 2) := dk_21 5 (dk_at dksX4_copy_6 21 rfl rfl)
theorem dX4_copy_163 : decode cX4_copy 163 = .ok (.isub, 1) := dk_100 (dk_at dksX4_copy_6 23 rfl rfl)
theorem dX4_copy_164 : decode cX4_copy 164 = .ok (.if_icmp .gt 17, 3) := dk_163 0 17 (dk_at dksX4_copy_7 0 rfl rfl)
theorem dX4_copy_167 : decode cX4_copy 167 = .ok (.iload 4, 2) := dk_21 4 (dk_at dksX4_copy_7 3 rfl rfl)
theorem dX4_copy_169 : decode cX4_copy 169 = .ok (.aload_n 0, 1) := dk_42 (dk_at dksX4_copy_7 5 rfl rfl)
theorem dX4_copy_170 : decode cX4_copy 170 = .ok (.getfield 16, 3) := dk_180 0 16 (dk_at dksX4_copy_7 6 rfl rfl)
theorem dX4_copy_173 : decode cX4_copy 173 = .ok (.iload_n 2, 1) := dk_28 (dk_at dksX4_copy_7 9 rfl rfl)
theorem dX4_copy_174 : decode cX4_copy 174 = .ok (.iaload, 1) := dk_46 (dk_at dksX4_copy_7 10 rfl rfl)
theorem dX4_copy_175 : decode cX4_copy 175 = .ok (.iload 5, 2) := dk_21 5 (dk_at dksX4_copy_7 11 rfl rfl)
theorem dX4_copy_177 : decode cX4_copy 177 = .ok (.isub, 1) := dk_100 (dk_at dksX4_copy_7 13 rfl rfl)
theorem dX4_copy_178 : decode cX4_copy 178 = .ok (.if_icmp .le 10, 3) := dk_164 0 10 (dk_at dksX4_copy_7 14 rfl rfl)
theorem dX4_copy_181 : decode cX4_copy 181 = .ok (.aload_n 0, 1) := dk_42 (dk_at dksX4_copy_7 17 rfl rfl)
theorem dX4_copy_182 : decode cX4_copy 182 = .ok (.bipush (-2), 2) := dk_16 254 (dk_at dksX4_copy_7 18 rfl rfl)
theorem dX4_copy_184 : decode cX4_copy 184 = .ok (.invokevirtual 110, 3) := dk_182 0 110 (dk_at dksX4_copy_7 20 rfl rfl)
theorem dX4_copy_187 : decode cX4_copy 187 = .ok (.ireturn, 1) := dk_172 (dk_at dksX4_copy_7 23 rfl rfl)
theorem dX4_copy_188 : decode cX4_copy 188 = .ok (.iconst 0, 1) := dk_3 (dk_at dksX4_copy_8 0 rfl rfl)
theorem dX4_copy_189 : decode cX4_copy 189 = .ok (.istore 6, 2) := dk_54 6 (dk_at dksX4_copy_8 1 rfl rfl)
theorem dX4_copy_191 : decode cX4_copy 191 = .ok (.iload 6, 2) := dk_21 6 (dk_at dksX4_copy_8 3 rfl rfl)
theorem dX4_copy_193 : decode cX4_copy 193 = .ok (.iload 5, 2) := dk_21 5 (dk_at dksX4_copy_8 5 rfl rfl)
theorem dX4_copy_195 : decode cX4_copy 195 = .ok (.if_icmp .ge 27, 3) := dk_162 0 27 (dk_at dksX4_copy_8 7 rfl rfl)
theorem dX4_copy_198 : decode cX4_copy 198 = .ok (.aload_n 0, 1) := dk_42 (dk_at dksX4_copy_8 10 rfl rfl)
theorem dX4_copy_199 : decode cX4_copy 199 = .ok (.getfield 24, 3) := dk_180 0 24 (dk_at dksX4_copy_8 11 rfl rfl)
theorem dX4_copy_202 : decode cX4_copy 202 = .ok (.iload 6, 2) := dk_21 6 (dk_at dksX4_copy_8 14 rfl rfl)
theorem dX4_copy_204 : decode cX4_copy 204 = .ok (.aload_n 0, 1) := dk_42 (dk_at dksX4_copy_8 16 rfl rfl)
theorem dX4_copy_205 : decode cX4_copy 205 = .ok (.getfield 21, 3) := dk_180 0 21 (dk_at dksX4_copy_8 17 rfl rfl)
theorem dX4_copy_208 : decode cX4_copy 208 = .ok (.iload_n 1, 1) := dk_27 (dk_at dksX4_copy_8 20 rfl rfl)
theorem dX4_copy_209 : decode cX4_copy 209 = .ok (.aaload, 1) := dk_50 (dk_at dksX4_copy_8 21 rfl rfl)
theorem dX4_copy_210 : decode cX4_copy 210 = .ok (.iload_n 3, 1) := dk_29 (dk_at dksX4_copy_8 22 rfl rfl)
theorem dX4_copy_211 : decode cX4_copy 211 = .ok (.iload 6, 2) := dk_21 6 (dk_at dksX4_copy_9 0 rfl rfl)
theorem dX4_copy_213 : decode cX4_copy 213 = .ok (.iadd, 1) := dk_96 (dk_at dksX4_copy_9 2 rfl rfl)
theorem dX4_copy_214 : decode cX4_copy 214 = .ok (.laload, 1) := dk_47 (dk_at dksX4_copy_9 3 rfl rfl)
theorem dX4_copy_215 : decode cX4_copy 215 = .ok (.lastore, 1) := dk_80 (dk_at dksX4_copy_9 4 rfl rfl)
theorem dX4_copy_216 : decode cX4_copy 216 = .ok (.iinc 6 1, 3) := dk_132 6 1 (dk_at dksX4_copy_9 5 rfl rfl)
theorem dX4_copy_219 : decode cX4_copy 219 = .ok (.goto (-28), 3) := dk_167 255 228 (dk_at dksX4_copy_9 8 rfl rfl)
theorem dX4_copy_222 : decode cX4_copy 222 = .ok (.iconst 0, 1) := dk_3 (dk_at dksX4_copy_9 11 rfl rfl)
theorem dX4_copy_223 : decode cX4_copy 223 = .ok (.istore 6, 2) := dk_54 6 (dk_at dksX4_copy_9 12 rfl rfl)
theorem dX4_copy_225 : decode cX4_copy 225 = .ok (.iload 6, 2) := dk_21 6 (dk_at dksX4_copy_9 14 rfl rfl)
theorem dX4_copy_227 : decode cX4_copy 227 = .ok (.iload 5, 2) := dk_21 5 (dk_at dksX4_copy_9 16 rfl rfl)
theorem dX4_copy_229 : decode cX4_copy 229 = .ok (.if_icmp .ge 28, 3) := dk_162 0 28 (dk_at dksX4_copy_9 18 rfl rfl)
theorem dX4_copy_232 : decode cX4_copy 232 = .ok (.aload_n 0, 1) := dk_42 (dk_at dksX4_copy_9 21 rfl rfl)
theorem dX4_copy_233 : decode cX4_copy 233 = .ok (.getfield 21, 3) := dk_180 0 21 (dk_at dksX4_copy_10 0 rfl rfl)
theorem dX4_copy_236 : decode cX4_copy 236 = .ok (.iload_n 2, 1) := dk_28 (dk_at dksX4_copy_10 3 rfl rfl)
theorem dX4_copy_237 : decode cX4_copy 237 = .ok (.aaload, 1) := dk_50 (dk_at dksX4_copy_10 4 rfl rfl)
theorem dX4_copy_238 : decode cX4_copy 238 = .ok (.iload 4, 2) := dk_21 4 (dk_at dksX4_copy_10 5 rfl rfl)
theorem dX4_copy_240 : decode cX4_copy 240 = .ok (.iload 6, 2) := dk_21 6 (dk_at dksX4_copy_10 7 rfl rfl)
theorem dX4_copy_242 : decode cX4_copy 242 = .ok (.iadd, 1) := dk_96 (dk_at dksX4_copy_10 9 rfl rfl)
theorem dX4_copy_243 : decode cX4_copy 243 = .ok (.aload_n 0, 1) := dk_42 (dk_at dksX4_copy_10 10 rfl rfl)
theorem dX4_copy_244 : decode cX4_copy 244 = .ok (.getfield 24, 3) := dk_180 0 24 (dk_at dksX4_copy_10 11 rfl rfl)
theorem dX4_copy_247 : decode cX4_copy 247 = .ok (.iload 6, 2) := dk_21 6 (dk_at dksX4_copy_10 14 rfl rfl)
theorem dX4_copy_249 : decode cX4_copy 249 = .ok (.laload, 1) := dk_47 (dk_at dksX4_copy_10 16 rfl rfl)
theorem dX4_copy_250 : decode cX4_copy 250 = .ok (.lastore, 1) := dk_80 (dk_at dksX4_copy_10 17 rfl rfl)
theorem dX4_copy_251 : decode cX4_copy 251 = .ok (.iinc 6 1, 3) := dk_132 6 1 (dk_at dksX4_copy_10 18 rfl rfl)
theorem dX4_copy_254 : decode cX4_copy 254 = .ok (.goto (-29), 3) := dk_167 255 227 (dk_at dksX4_copy_10 21 rfl rfl)
theorem dX4_copy_257 : decode cX4_copy 257 = .ok (.iload 5, 2) := dk_21 5 (dk_at dksX4_copy_11 0 rfl rfl)
theorem dX4_copy_259 : decode cX4_copy 259 = .ok (.ireturn, 1) := dk_172 (dk_at dksX4_copy_11 2 rfl rfl)
abbrev cX4_element : ByteArray := prog_19_method_16_code
def yX4_element : MethodName := ⟨RX4, "element", "(II)J"⟩
def dkwX4_element_2 : List UInt8 := [167, 0, 4, 9, 173]
abbrev dktX4_element_2 : List UInt8 := dkwX4_element_2 ++ []
def dkwX4_element_1 : List UInt8 := [9, 42, 180, 0, 16, 27, 46, 4, 100, 133, 184, 0, 88, 153, 0, 14, 42, 180, 0, 21, 27, 50, 28, 47]
abbrev dktX4_element_1 : List UInt8 := dkwX4_element_1 ++ dktX4_element_2
def dkwX4_element_0 : List UInt8 := [27, 133, 9, 20, 0, 104, 184, 0, 88, 153, 0, 42, 42, 180, 0, 7, 27, 46, 4, 160, 0, 32, 28, 133]
abbrev dktX4_element_0 : List UInt8 := dkwX4_element_0 ++ dktX4_element_1
theorem dksX4_element_0 : cX4_element.data.toList.drop 0 = dktX4_element_0 := by decide +kernel
theorem dksX4_element_1 : cX4_element.data.toList.drop 24 = dktX4_element_1 := dk_seg dksX4_element_0 24 rfl rfl
theorem dksX4_element_2 : cX4_element.data.toList.drop 48 = dktX4_element_2 := dk_seg dksX4_element_1 24 rfl rfl
theorem dX4_element_0 : decode cX4_element 0 = .ok (.iload_n 1, 1) := dk_27 (dk_at dksX4_element_0 0 rfl rfl)
theorem dX4_element_1 : decode cX4_element 1 = .ok (.i2l, 1) := dk_133 (dk_at dksX4_element_0 1 rfl rfl)
theorem dX4_element_2 : decode cX4_element 2 = .ok (.lconst 0, 1) := dk_9 (dk_at dksX4_element_0 2 rfl rfl)
theorem dX4_element_3 : decode cX4_element 3 = .ok (.ldc2_w 104, 3) := dk_20 0 104 (dk_at dksX4_element_0 3 rfl rfl)
theorem dX4_element_6 : decode cX4_element 6 = .ok (.invokestatic 88, 3) := dk_184 0 88 (dk_at dksX4_element_0 6 rfl rfl)
theorem dX4_element_9 : decode cX4_element 9 = .ok (.ifCond .eq 42, 3) := dk_153 0 42 (dk_at dksX4_element_0 9 rfl rfl)
theorem dX4_element_12 : decode cX4_element 12 = .ok (.aload_n 0, 1) := dk_42 (dk_at dksX4_element_0 12 rfl rfl)
theorem dX4_element_13 : decode cX4_element 13 = .ok (.getfield 7, 3) := dk_180 0 7 (dk_at dksX4_element_0 13 rfl rfl)
theorem dX4_element_16 : decode cX4_element 16 = .ok (.iload_n 1, 1) := dk_27 (dk_at dksX4_element_0 16 rfl rfl)
theorem dX4_element_17 : decode cX4_element 17 = .ok (.iaload, 1) := dk_46 (dk_at dksX4_element_0 17 rfl rfl)
theorem dX4_element_18 : decode cX4_element 18 = .ok (.iconst 1, 1) := dk_4 (dk_at dksX4_element_0 18 rfl rfl)
theorem dX4_element_19 : decode cX4_element 19 = .ok (.if_icmp .ne 32, 3) := dk_160 0 32 (dk_at dksX4_element_0 19 rfl rfl)
theorem dX4_element_22 : decode cX4_element 22 = .ok (.iload_n 2, 1) := dk_28 (dk_at dksX4_element_0 22 rfl rfl)
theorem dX4_element_23 : decode cX4_element 23 = .ok (.i2l, 1) := dk_133 (dk_at dksX4_element_0 23 rfl rfl)
theorem dX4_element_24 : decode cX4_element 24 = .ok (.lconst 0, 1) := dk_9 (dk_at dksX4_element_1 0 rfl rfl)
theorem dX4_element_25 : decode cX4_element 25 = .ok (.aload_n 0, 1) := dk_42 (dk_at dksX4_element_1 1 rfl rfl)
theorem dX4_element_26 : decode cX4_element 26 = .ok (.getfield 16, 3) := dk_180 0 16 (dk_at dksX4_element_1 2 rfl rfl)
theorem dX4_element_29 : decode cX4_element 29 = .ok (.iload_n 1, 1) := dk_27 (dk_at dksX4_element_1 5 rfl rfl)
theorem dX4_element_30 : decode cX4_element 30 = .ok (.iaload, 1) := dk_46 (dk_at dksX4_element_1 6 rfl rfl)
theorem dX4_element_31 : decode cX4_element 31 = .ok (.iconst 1, 1) := dk_4 (dk_at dksX4_element_1 7 rfl rfl)
theorem dX4_element_32 : decode cX4_element 32 = .ok (.isub, 1) := dk_100 (dk_at dksX4_element_1 8 rfl rfl)
theorem dX4_element_33 : decode cX4_element 33 = .ok (.i2l, 1) := dk_133 (dk_at dksX4_element_1 9 rfl rfl)
theorem dX4_element_34 : decode cX4_element 34 = .ok (.invokestatic 88, 3) := dk_184 0 88 (dk_at dksX4_element_1 10 rfl rfl)
theorem dX4_element_37 : decode cX4_element 37 = .ok (.ifCond .eq 14, 3) := dk_153 0 14 (dk_at dksX4_element_1 13 rfl rfl)
theorem dX4_element_40 : decode cX4_element 40 = .ok (.aload_n 0, 1) := dk_42 (dk_at dksX4_element_1 16 rfl rfl)
theorem dX4_element_41 : decode cX4_element 41 = .ok (.getfield 21, 3) := dk_180 0 21 (dk_at dksX4_element_1 17 rfl rfl)
theorem dX4_element_44 : decode cX4_element 44 = .ok (.iload_n 1, 1) := dk_27 (dk_at dksX4_element_1 20 rfl rfl)
theorem dX4_element_45 : decode cX4_element 45 = .ok (.aaload, 1) := dk_50 (dk_at dksX4_element_1 21 rfl rfl)
theorem dX4_element_46 : decode cX4_element 46 = .ok (.iload_n 2, 1) := dk_28 (dk_at dksX4_element_1 22 rfl rfl)
theorem dX4_element_47 : decode cX4_element 47 = .ok (.laload, 1) := dk_47 (dk_at dksX4_element_1 23 rfl rfl)
theorem dX4_element_48 : decode cX4_element 48 = .ok (.goto 4, 3) := dk_167 0 4 (dk_at dksX4_element_2 0 rfl rfl)
theorem dX4_element_51 : decode cX4_element 51 = .ok (.lconst 0, 1) := dk_9 (dk_at dksX4_element_2 3 rfl rfl)
theorem dX4_element_52 : decode cX4_element 52 = .ok (.lreturn, 1) := dk_173 (dk_at dksX4_element_2 4 rfl rfl)
abbrev cX4_holds : ByteArray := prog_19_method_17_code
def yX4_holds : MethodName := ⟨RX4, "holds", "(I)I"⟩
def dkwX4_holds_2 : List UInt8 := [27, 46, 96, 172]
abbrev dktX4_holds_2 : List UInt8 := dkwX4_holds_2 ++ []
def dkwX4_holds_1 : List UInt8 := [180, 0, 7, 27, 46, 4, 160, 0, 12, 42, 180, 0, 13, 27, 46, 167, 0, 12, 16, 10, 42, 180, 0, 28]
abbrev dktX4_holds_1 : List UInt8 := dkwX4_holds_1 ++ dktX4_holds_2
def dkwX4_holds_0 : List UInt8 := [27, 133, 9, 20, 0, 104, 184, 0, 88, 153, 0, 12, 42, 180, 0, 7, 27, 46, 154, 0, 5, 2, 172, 42]
abbrev dktX4_holds_0 : List UInt8 := dkwX4_holds_0 ++ dktX4_holds_1
theorem dksX4_holds_0 : cX4_holds.data.toList.drop 0 = dktX4_holds_0 := by decide +kernel
theorem dksX4_holds_1 : cX4_holds.data.toList.drop 24 = dktX4_holds_1 := dk_seg dksX4_holds_0 24 rfl rfl
theorem dksX4_holds_2 : cX4_holds.data.toList.drop 48 = dktX4_holds_2 := dk_seg dksX4_holds_1 24 rfl rfl
theorem dX4_holds_0 : decode cX4_holds 0 = .ok (.iload_n 1, 1) := dk_27 (dk_at dksX4_holds_0 0 rfl rfl)
theorem dX4_holds_1 : decode cX4_holds 1 = .ok (.i2l, 1) := dk_133 (dk_at dksX4_holds_0 1 rfl rfl)
theorem dX4_holds_2 : decode cX4_holds 2 = .ok (.lconst 0, 1) := dk_9 (dk_at dksX4_holds_0 2 rfl rfl)
theorem dX4_holds_3 : decode cX4_holds 3 = .ok (.ldc2_w 104, 3) := dk_20 0 104 (dk_at dksX4_holds_0 3 rfl rfl)
theorem dX4_holds_6 : decode cX4_holds 6 = .ok (.invokestatic 88, 3) := dk_184 0 88 (dk_at dksX4_holds_0 6 rfl rfl)
theorem dX4_holds_9 : decode cX4_holds 9 = .ok (.ifCond .eq 12, 3) := dk_153 0 12 (dk_at dksX4_holds_0 9 rfl rfl)
theorem dX4_holds_12 : decode cX4_holds 12 = .ok (.aload_n 0, 1) := dk_42 (dk_at dksX4_holds_0 12 rfl rfl)
theorem dX4_holds_13 : decode cX4_holds 13 = .ok (.getfield 7, 3) := dk_180 0 7 (dk_at dksX4_holds_0 13 rfl rfl)
theorem dX4_holds_16 : decode cX4_holds 16 = .ok (.iload_n 1, 1) := dk_27 (dk_at dksX4_holds_0 16 rfl rfl)
theorem dX4_holds_17 : decode cX4_holds 17 = .ok (.iaload, 1) := dk_46 (dk_at dksX4_holds_0 17 rfl rfl)
theorem dX4_holds_18 : decode cX4_holds 18 = .ok (.ifCond .ne 5, 3) := dk_154 0 5 (dk_at dksX4_holds_0 18 rfl rfl)
theorem dX4_holds_21 : decode cX4_holds 21 = .ok (.iconst (-1), 1) := dk_2 (dk_at dksX4_holds_0 21 rfl rfl)
theorem dX4_holds_22 : decode cX4_holds 22 = .ok (.ireturn, 1) := dk_172 (dk_at dksX4_holds_0 22 rfl rfl)
theorem dX4_holds_23 : decode cX4_holds 23 = .ok (.aload_n 0, 1) := dk_42 (dk_at dksX4_holds_0 23 rfl rfl)
theorem dX4_holds_24 : decode cX4_holds 24 = .ok (.getfield 7, 3) := dk_180 0 7 (dk_at dksX4_holds_1 0 rfl rfl)
theorem dX4_holds_27 : decode cX4_holds 27 = .ok (.iload_n 1, 1) := dk_27 (dk_at dksX4_holds_1 3 rfl rfl)
theorem dX4_holds_28 : decode cX4_holds 28 = .ok (.iaload, 1) := dk_46 (dk_at dksX4_holds_1 4 rfl rfl)
theorem dX4_holds_29 : decode cX4_holds 29 = .ok (.iconst 1, 1) := dk_4 (dk_at dksX4_holds_1 5 rfl rfl)
theorem dX4_holds_30 : decode cX4_holds 30 = .ok (.if_icmp .ne 12, 3) := dk_160 0 12 (dk_at dksX4_holds_1 6 rfl rfl)
theorem dX4_holds_33 : decode cX4_holds 33 = .ok (.aload_n 0, 1) := dk_42 (dk_at dksX4_holds_1 9 rfl rfl)
theorem dX4_holds_34 : decode cX4_holds 34 = .ok (.getfield 13, 3) := dk_180 0 13 (dk_at dksX4_holds_1 10 rfl rfl)
theorem dX4_holds_37 : decode cX4_holds 37 = .ok (.iload_n 1, 1) := dk_27 (dk_at dksX4_holds_1 13 rfl rfl)
theorem dX4_holds_38 : decode cX4_holds 38 = .ok (.iaload, 1) := dk_46 (dk_at dksX4_holds_1 14 rfl rfl)
theorem dX4_holds_39 : decode cX4_holds 39 = .ok (.goto 12, 3) := dk_167 0 12 (dk_at dksX4_holds_1 15 rfl rfl)
theorem dX4_holds_42 : decode cX4_holds 42 = .ok (.bipush 10, 2) := dk_16 10 (dk_at dksX4_holds_1 18 rfl rfl)
theorem dX4_holds_44 : decode cX4_holds 44 = .ok (.aload_n 0, 1) := dk_42 (dk_at dksX4_holds_1 20 rfl rfl)
theorem dX4_holds_45 : decode cX4_holds 45 = .ok (.getfield 28, 3) := dk_180 0 28 (dk_at dksX4_holds_1 21 rfl rfl)
theorem dX4_holds_48 : decode cX4_holds 48 = .ok (.iload_n 1, 1) := dk_27 (dk_at dksX4_holds_2 0 rfl rfl)
theorem dX4_holds_49 : decode cX4_holds 49 = .ok (.iaload, 1) := dk_46 (dk_at dksX4_holds_2 1 rfl rfl)
theorem dX4_holds_50 : decode cX4_holds 50 = .ok (.iadd, 1) := dk_96 (dk_at dksX4_holds_2 2 rfl rfl)
theorem dX4_holds_51 : decode cX4_holds 51 = .ok (.ireturn, 1) := dk_172 (dk_at dksX4_holds_2 3 rfl rfl)
abbrev cX4_rule : ByteArray := prog_19_method_18_code
def yX4_rule : MethodName := ⟨RX4, "rule", "(III)I"⟩
def dkwX4_rule_2 : List UInt8 := [5, 79, 42, 180, 0, 28, 27, 28, 79, 42, 180, 0, 31, 27, 29, 79, 4, 172]
abbrev dktX4_rule_2 : List UInt8 := dkwX4_rule_2 ++ []
def dkwX4_rule_1 : List UInt8 := [29, 133, 9, 20, 0, 120, 184, 0, 88, 154, 0, 10, 42, 16, 254, 182, 0, 110, 172, 42, 180, 0, 7, 27]
abbrev dktX4_rule_1 : List UInt8 := dkwX4_rule_1 ++ dktX4_rule_2
def dkwX4_rule_0 : List UInt8 := [27, 133, 9, 20, 0, 104, 184, 0, 88, 153, 0, 27, 28, 133, 10, 20, 0, 118, 184, 0, 88, 153, 0, 15]
abbrev dktX4_rule_0 : List UInt8 := dkwX4_rule_0 ++ dktX4_rule_1
theorem dksX4_rule_0 : cX4_rule.data.toList.drop 0 = dktX4_rule_0 := by decide +kernel
theorem dksX4_rule_1 : cX4_rule.data.toList.drop 24 = dktX4_rule_1 := dk_seg dksX4_rule_0 24 rfl rfl
theorem dksX4_rule_2 : cX4_rule.data.toList.drop 48 = dktX4_rule_2 := dk_seg dksX4_rule_1 24 rfl rfl
theorem dX4_rule_0 : decode cX4_rule 0 = .ok (.iload_n 1, 1) := dk_27 (dk_at dksX4_rule_0 0 rfl rfl)
theorem dX4_rule_1 : decode cX4_rule 1 = .ok (.i2l, 1) := dk_133 (dk_at dksX4_rule_0 1 rfl rfl)
theorem dX4_rule_2 : decode cX4_rule 2 = .ok (.lconst 0, 1) := dk_9 (dk_at dksX4_rule_0 2 rfl rfl)
theorem dX4_rule_3 : decode cX4_rule 3 = .ok (.ldc2_w 104, 3) := dk_20 0 104 (dk_at dksX4_rule_0 3 rfl rfl)
theorem dX4_rule_6 : decode cX4_rule 6 = .ok (.invokestatic 88, 3) := dk_184 0 88 (dk_at dksX4_rule_0 6 rfl rfl)
theorem dX4_rule_9 : decode cX4_rule 9 = .ok (.ifCond .eq 27, 3) := dk_153 0 27 (dk_at dksX4_rule_0 9 rfl rfl)
theorem dX4_rule_12 : decode cX4_rule 12 = .ok (.iload_n 2, 1) := dk_28 (dk_at dksX4_rule_0 12 rfl rfl)
theorem dX4_rule_13 : decode cX4_rule 13 = .ok (.i2l, 1) := dk_133 (dk_at dksX4_rule_0 13 rfl rfl)
theorem dX4_rule_14 : decode cX4_rule 14 = .ok (.lconst 1, 1) := dk_10 (dk_at dksX4_rule_0 14 rfl rfl)
theorem dX4_rule_15 : decode cX4_rule 15 = .ok (.ldc2_w 118, 3) := dk_20 0 118 (dk_at dksX4_rule_0 15 rfl rfl)
theorem dX4_rule_18 : decode cX4_rule 18 = .ok (.invokestatic 88, 3) := dk_184 0 88 (dk_at dksX4_rule_0 18 rfl rfl)
theorem dX4_rule_21 : decode cX4_rule 21 = .ok (.ifCond .eq 15, 3) := dk_153 0 15 (dk_at dksX4_rule_0 21 rfl rfl)
theorem dX4_rule_24 : decode cX4_rule 24 = .ok (.iload_n 3, 1) := dk_29 (dk_at dksX4_rule_1 0 rfl rfl)
theorem dX4_rule_25 : decode cX4_rule 25 = .ok (.i2l, 1) := dk_133 (dk_at dksX4_rule_1 1 rfl rfl)
theorem dX4_rule_26 : decode cX4_rule 26 = .ok (.lconst 0, 1) := dk_9 (dk_at dksX4_rule_1 2 rfl rfl)
theorem dX4_rule_27 : decode cX4_rule 27 = .ok (.ldc2_w 120, 3) := dk_20 0 120 (dk_at dksX4_rule_1 3 rfl rfl)
theorem dX4_rule_30 : decode cX4_rule 30 = .ok (.invokestatic 88, 3) := dk_184 0 88 (dk_at dksX4_rule_1 6 rfl rfl)
theorem dX4_rule_33 : decode cX4_rule 33 = .ok (.ifCond .ne 10, 3) := dk_154 0 10 (dk_at dksX4_rule_1 9 rfl rfl)
theorem dX4_rule_36 : decode cX4_rule 36 = .ok (.aload_n 0, 1) := dk_42 (dk_at dksX4_rule_1 12 rfl rfl)
theorem dX4_rule_37 : decode cX4_rule 37 = .ok (.bipush (-2), 2) := dk_16 254 (dk_at dksX4_rule_1 13 rfl rfl)
theorem dX4_rule_39 : decode cX4_rule 39 = .ok (.invokevirtual 110, 3) := dk_182 0 110 (dk_at dksX4_rule_1 15 rfl rfl)
theorem dX4_rule_42 : decode cX4_rule 42 = .ok (.ireturn, 1) := dk_172 (dk_at dksX4_rule_1 18 rfl rfl)
theorem dX4_rule_43 : decode cX4_rule 43 = .ok (.aload_n 0, 1) := dk_42 (dk_at dksX4_rule_1 19 rfl rfl)
theorem dX4_rule_44 : decode cX4_rule 44 = .ok (.getfield 7, 3) := dk_180 0 7 (dk_at dksX4_rule_1 20 rfl rfl)
theorem dX4_rule_47 : decode cX4_rule 47 = .ok (.iload_n 1, 1) := dk_27 (dk_at dksX4_rule_1 23 rfl rfl)
theorem dX4_rule_48 : decode cX4_rule 48 = .ok (.iconst 2, 1) := dk_5 (dk_at dksX4_rule_2 0 rfl rfl)
theorem dX4_rule_49 : decode cX4_rule 49 = .ok (.iastore, 1) := dk_79 (dk_at dksX4_rule_2 1 rfl rfl)
theorem dX4_rule_50 : decode cX4_rule 50 = .ok (.aload_n 0, 1) := dk_42 (dk_at dksX4_rule_2 2 rfl rfl)
theorem dX4_rule_51 : decode cX4_rule 51 = .ok (.getfield 28, 3) := dk_180 0 28 (dk_at dksX4_rule_2 3 rfl rfl)
theorem dX4_rule_54 : decode cX4_rule 54 = .ok (.iload_n 1, 1) := dk_27 (dk_at dksX4_rule_2 6 rfl rfl)
theorem dX4_rule_55 : decode cX4_rule 55 = .ok (.iload_n 2, 1) := dk_28 (dk_at dksX4_rule_2 7 rfl rfl)
theorem dX4_rule_56 : decode cX4_rule 56 = .ok (.iastore, 1) := dk_79 (dk_at dksX4_rule_2 8 rfl rfl)
theorem dX4_rule_57 : decode cX4_rule 57 = .ok (.aload_n 0, 1) := dk_42 (dk_at dksX4_rule_2 9 rfl rfl)
theorem dX4_rule_58 : decode cX4_rule 58 = .ok (.getfield 31, 3) := dk_180 0 31 (dk_at dksX4_rule_2 10 rfl rfl)
theorem dX4_rule_61 : decode cX4_rule 61 = .ok (.iload_n 1, 1) := dk_27 (dk_at dksX4_rule_2 13 rfl rfl)
theorem dX4_rule_62 : decode cX4_rule 62 = .ok (.iload_n 3, 1) := dk_29 (dk_at dksX4_rule_2 14 rfl rfl)
theorem dX4_rule_63 : decode cX4_rule 63 = .ok (.iastore, 1) := dk_79 (dk_at dksX4_rule_2 15 rfl rfl)
theorem dX4_rule_64 : decode cX4_rule 64 = .ok (.iconst 1, 1) := dk_4 (dk_at dksX4_rule_2 16 rfl rfl)
theorem dX4_rule_65 : decode cX4_rule 65 = .ok (.ireturn, 1) := dk_172 (dk_at dksX4_rule_2 17 rfl rfl)
abbrev cX4_says : ByteArray := prog_19_method_20_code
def yX4_says : MethodName := ⟨RX4, "says", "(II)I"⟩
def dkwX4_says_6 : List UInt8 := [46, 3, 42, 182, 0, 129, 182, 0, 133, 172]
abbrev dktX4_says_6 : List UInt8 := dkwX4_says_6 ++ []
def dkwX4_says_5 : List UInt8 := [154, 0, 12, 42, 16, 251, 182, 0, 110, 167, 0, 24, 42, 42, 180, 0, 28, 27, 46, 42, 180, 0, 31, 27]
abbrev dktX4_says_5 : List UInt8 := dkwX4_says_5 ++ dktX4_says_6
def dkwX4_says_4 : List UInt8 := [46, 172, 28, 16, 6, 160, 0, 13, 42, 180, 0, 31, 27, 46, 184, 0, 126, 172, 42, 180, 0, 85]
abbrev dktX4_says_4 : List UInt8 := dkwX4_says_4 ++ dktX4_says_5
def dkwX4_says_3 : List UInt8 := [180, 0, 7, 27, 46, 154, 0, 10, 42, 16, 252, 182, 0, 110, 172, 28, 154, 0, 10, 42, 180, 0, 31, 27]
abbrev dktX4_says_3 : List UInt8 := dkwX4_says_3 ++ dktX4_says_4
def dkwX4_says_2 : List UInt8 := [160, 0, 23, 42, 180, 0, 28, 27, 46, 28, 184, 0, 122, 154, 0, 10, 42, 16, 253, 182, 0, 110, 172, 42]
abbrev dktX4_says_2 : List UInt8 := dkwX4_says_2 ++ dktX4_says_3
def dkwX4_says_1 : List UInt8 := [42, 16, 254, 182, 0, 110, 172, 42, 180, 0, 7, 27, 46, 4, 159, 0, 26, 42, 180, 0, 7, 27, 46, 5]
abbrev dktX4_says_1 : List UInt8 := dkwX4_says_1 ++ dktX4_says_2
def dkwX4_says_0 : List UInt8 := [27, 133, 9, 20, 0, 104, 184, 0, 88, 153, 0, 15, 28, 133, 9, 20, 0, 118, 184, 0, 88, 154, 0, 10]
abbrev dktX4_says_0 : List UInt8 := dkwX4_says_0 ++ dktX4_says_1
theorem dksX4_says_0 : cX4_says.data.toList.drop 0 = dktX4_says_0 := by decide +kernel
theorem dksX4_says_1 : cX4_says.data.toList.drop 24 = dktX4_says_1 := dk_seg dksX4_says_0 24 rfl rfl
theorem dksX4_says_2 : cX4_says.data.toList.drop 48 = dktX4_says_2 := dk_seg dksX4_says_1 24 rfl rfl
theorem dksX4_says_3 : cX4_says.data.toList.drop 72 = dktX4_says_3 := dk_seg dksX4_says_2 24 rfl rfl
theorem dksX4_says_4 : cX4_says.data.toList.drop 96 = dktX4_says_4 := dk_seg dksX4_says_3 24 rfl rfl
theorem dksX4_says_5 : cX4_says.data.toList.drop 118 = dktX4_says_5 := dk_seg dksX4_says_4 22 rfl rfl
theorem dksX4_says_6 : cX4_says.data.toList.drop 142 = dktX4_says_6 := dk_seg dksX4_says_5 24 rfl rfl
theorem dX4_says_0 : decode cX4_says 0 = .ok (.iload_n 1, 1) := dk_27 (dk_at dksX4_says_0 0 rfl rfl)
theorem dX4_says_1 : decode cX4_says 1 = .ok (.i2l, 1) := dk_133 (dk_at dksX4_says_0 1 rfl rfl)
theorem dX4_says_2 : decode cX4_says 2 = .ok (.lconst 0, 1) := dk_9 (dk_at dksX4_says_0 2 rfl rfl)
theorem dX4_says_3 : decode cX4_says 3 = .ok (.ldc2_w 104, 3) := dk_20 0 104 (dk_at dksX4_says_0 3 rfl rfl)
theorem dX4_says_6 : decode cX4_says 6 = .ok (.invokestatic 88, 3) := dk_184 0 88 (dk_at dksX4_says_0 6 rfl rfl)
theorem dX4_says_9 : decode cX4_says 9 = .ok (.ifCond .eq 15, 3) := dk_153 0 15 (dk_at dksX4_says_0 9 rfl rfl)
theorem dX4_says_12 : decode cX4_says 12 = .ok (.iload_n 2, 1) := dk_28 (dk_at dksX4_says_0 12 rfl rfl)
theorem dX4_says_13 : decode cX4_says 13 = .ok (.i2l, 1) := dk_133 (dk_at dksX4_says_0 13 rfl rfl)
theorem dX4_says_14 : decode cX4_says 14 = .ok (.lconst 0, 1) := dk_9 (dk_at dksX4_says_0 14 rfl rfl)
theorem dX4_says_15 : decode cX4_says 15 = .ok (.ldc2_w 118, 3) := dk_20 0 118 (dk_at dksX4_says_0 15 rfl rfl)
theorem dX4_says_18 : decode cX4_says 18 = .ok (.invokestatic 88, 3) := dk_184 0 88 (dk_at dksX4_says_0 18 rfl rfl)
theorem dX4_says_21 : decode cX4_says 21 = .ok (.ifCond .ne 10, 3) := dk_154 0 10 (dk_at dksX4_says_0 21 rfl rfl)
theorem dX4_says_24 : decode cX4_says 24 = .ok (.aload_n 0, 1) := dk_42 (dk_at dksX4_says_1 0 rfl rfl)
theorem dX4_says_25 : decode cX4_says 25 = .ok (.bipush (-2), 2) := dk_16 254 (dk_at dksX4_says_1 1 rfl rfl)
theorem dX4_says_27 : decode cX4_says 27 = .ok (.invokevirtual 110, 3) := dk_182 0 110 (dk_at dksX4_says_1 3 rfl rfl)
theorem dX4_says_30 : decode cX4_says 30 = .ok (.ireturn, 1) := dk_172 (dk_at dksX4_says_1 6 rfl rfl)
theorem dX4_says_31 : decode cX4_says 31 = .ok (.aload_n 0, 1) := dk_42 (dk_at dksX4_says_1 7 rfl rfl)
theorem dX4_says_32 : decode cX4_says 32 = .ok (.getfield 7, 3) := dk_180 0 7 (dk_at dksX4_says_1 8 rfl rfl)
theorem dX4_says_35 : decode cX4_says 35 = .ok (.iload_n 1, 1) := dk_27 (dk_at dksX4_says_1 11 rfl rfl)
theorem dX4_says_36 : decode cX4_says 36 = .ok (.iaload, 1) := dk_46 (dk_at dksX4_says_1 12 rfl rfl)
theorem dX4_says_37 : decode cX4_says 37 = .ok (.iconst 1, 1) := dk_4 (dk_at dksX4_says_1 13 rfl rfl)
theorem dX4_says_38 : decode cX4_says 38 = .ok (.if_icmp .eq 26, 3) := dk_159 0 26 (dk_at dksX4_says_1 14 rfl rfl)
theorem dX4_says_41 : decode cX4_says 41 = .ok (.aload_n 0, 1) := dk_42 (dk_at dksX4_says_1 17 rfl rfl)
theorem dX4_says_42 : decode cX4_says 42 = .ok (.getfield 7, 3) := dk_180 0 7 (dk_at dksX4_says_1 18 rfl rfl)
theorem dX4_says_45 : decode cX4_says 45 = .ok (.iload_n 1, 1) := dk_27 (dk_at dksX4_says_1 21 rfl rfl)
theorem dX4_says_46 : decode cX4_says 46 = .ok (.iaload, 1) := dk_46 (dk_at dksX4_says_1 22 rfl rfl)
theorem dX4_says_47 : decode cX4_says 47 = .ok (.iconst 2, 1) := dk_5 (dk_at dksX4_says_1 23 rfl rfl)
theorem dX4_says_48 : decode cX4_says 48 = .ok (.if_icmp .ne 23, 3) := dk_160 0 23 (dk_at dksX4_says_2 0 rfl rfl)
theorem dX4_says_51 : decode cX4_says 51 = .ok (.aload_n 0, 1) := dk_42 (dk_at dksX4_says_2 3 rfl rfl)
theorem dX4_says_52 : decode cX4_says 52 = .ok (.getfield 28, 3) := dk_180 0 28 (dk_at dksX4_says_2 4 rfl rfl)
theorem dX4_says_55 : decode cX4_says 55 = .ok (.iload_n 1, 1) := dk_27 (dk_at dksX4_says_2 7 rfl rfl)
theorem dX4_says_56 : decode cX4_says 56 = .ok (.iaload, 1) := dk_46 (dk_at dksX4_says_2 8 rfl rfl)
theorem dX4_says_57 : decode cX4_says 57 = .ok (.iload_n 2, 1) := dk_28 (dk_at dksX4_says_2 9 rfl rfl)
theorem dX4_says_58 : decode cX4_says 58 = .ok (.invokestatic 122, 3) := dk_184 0 122 (dk_at dksX4_says_2 10 rfl rfl)
theorem dX4_says_61 : decode cX4_says 61 = .ok (.ifCond .ne 10, 3) := dk_154 0 10 (dk_at dksX4_says_2 13 rfl rfl)
theorem dX4_says_64 : decode cX4_says 64 = .ok (.aload_n 0, 1) := dk_42 (dk_at dksX4_says_2 16 rfl rfl)
theorem dX4_says_65 : decode cX4_says 65 = .ok (.bipush (-3), 2) := dk_16 253 (dk_at dksX4_says_2 17 rfl rfl)
theorem dX4_says_67 : decode cX4_says 67 = .ok (.invokevirtual 110, 3) := dk_182 0 110 (dk_at dksX4_says_2 19 rfl rfl)
theorem dX4_says_70 : decode cX4_says 70 = .ok (.ireturn, 1) := dk_172 (dk_at dksX4_says_2 22 rfl rfl)
theorem dX4_says_71 : decode cX4_says 71 = .ok (.aload_n 0, 1) := dk_42 (dk_at dksX4_says_2 23 rfl rfl)
theorem dX4_says_72 : decode cX4_says 72 = .ok (.getfield 7, 3) := dk_180 0 7 (dk_at dksX4_says_3 0 rfl rfl)
theorem dX4_says_75 : decode cX4_says 75 = .ok (.iload_n 1, 1) := dk_27 (dk_at dksX4_says_3 3 rfl rfl)
theorem dX4_says_76 : decode cX4_says 76 = .ok (.iaload, 1) := dk_46 (dk_at dksX4_says_3 4 rfl rfl)
theorem dX4_says_77 : decode cX4_says 77 = .ok (.ifCond .ne 10, 3) := dk_154 0 10 (dk_at dksX4_says_3 5 rfl rfl)
theorem dX4_says_80 : decode cX4_says 80 = .ok (.aload_n 0, 1) := dk_42 (dk_at dksX4_says_3 8 rfl rfl)
theorem dX4_says_81 : decode cX4_says 81 = .ok (.bipush (-4), 2) := dk_16 252 (dk_at dksX4_says_3 9 rfl rfl)
theorem dX4_says_83 : decode cX4_says 83 = .ok (.invokevirtual 110, 3) := dk_182 0 110 (dk_at dksX4_says_3 11 rfl rfl)
theorem dX4_says_86 : decode cX4_says 86 = .ok (.ireturn, 1) := dk_172 (dk_at dksX4_says_3 14 rfl rfl)
theorem dX4_says_87 : decode cX4_says 87 = .ok (.iload_n 2, 1) := dk_28 (dk_at dksX4_says_3 15 rfl rfl)
theorem dX4_says_88 : decode cX4_says 88 = .ok (.ifCond .ne 10, 3) := dk_154 0 10 (dk_at dksX4_says_3 16 rfl rfl)
theorem dX4_says_91 : decode cX4_says 91 = .ok (.aload_n 0, 1) := dk_42 (dk_at dksX4_says_3 19 rfl rfl)
theorem dX4_says_92 : decode cX4_says 92 = .ok (.getfield 31, 3) := dk_180 0 31 (dk_at dksX4_says_3 20 rfl rfl)
theorem dX4_says_95 : decode cX4_says 95 = .ok (.iload_n 1, 1) := dk_27 (dk_at dksX4_says_3 23 rfl rfl)
theorem dX4_says_96 : decode cX4_says 96 = .ok (.iaload, 1) := dk_46 (dk_at dksX4_says_4 0 rfl rfl)
theorem dX4_says_97 : decode cX4_says 97 = .ok (.ireturn, 1) := dk_172 (dk_at dksX4_says_4 1 rfl rfl)
theorem dX4_says_98 : decode cX4_says 98 = .ok (.iload_n 2, 1) := dk_28 (dk_at dksX4_says_4 2 rfl rfl)
theorem dX4_says_99 : decode cX4_says 99 = .ok (.bipush 6, 2) := dk_16 6 (dk_at dksX4_says_4 3 rfl rfl)
theorem dX4_says_101 : decode cX4_says 101 = .ok (.if_icmp .ne 13, 3) := dk_160 0 13 (dk_at dksX4_says_4 5 rfl rfl)
theorem dX4_says_104 : decode cX4_says 104 = .ok (.aload_n 0, 1) := dk_42 (dk_at dksX4_says_4 8 rfl rfl)
theorem dX4_says_105 : decode cX4_says 105 = .ok (.getfield 31, 3) := dk_180 0 31 (dk_at dksX4_says_4 9 rfl rfl)
theorem dX4_says_108 : decode cX4_says 108 = .ok (.iload_n 1, 1) := dk_27 (dk_at dksX4_says_4 12 rfl rfl)
theorem dX4_says_109 : decode cX4_says 109 = .ok (.iaload, 1) := dk_46 (dk_at dksX4_says_4 13 rfl rfl)
theorem dX4_says_110 : decode cX4_says 110 = .ok (.invokestatic 126, 3) := dk_184 0 126 (dk_at dksX4_says_4 14 rfl rfl)
theorem dX4_says_113 : decode cX4_says 113 = .ok (.ireturn, 1) := dk_172 (dk_at dksX4_says_4 17 rfl rfl)
theorem dX4_says_114 : decode cX4_says 114 = .ok (.aload_n 0, 1) := dk_42 (dk_at dksX4_says_4 18 rfl rfl)
theorem dX4_says_115 : decode cX4_says 115 = .ok (.getfield 85, 3) := dk_180 0 85 (dk_at dksX4_says_4 19 rfl rfl)
theorem dX4_says_118 : decode cX4_says 118 = .ok (.ifCond .ne 12, 3) := dk_154 0 12 (dk_at dksX4_says_5 0 rfl rfl)
theorem dX4_says_121 : decode cX4_says 121 = .ok (.aload_n 0, 1) := dk_42 (dk_at dksX4_says_5 3 rfl rfl)
theorem dX4_says_122 : decode cX4_says 122 = .ok (.bipush (-5), 2) := dk_16 251 (dk_at dksX4_says_5 4 rfl rfl)
theorem dX4_says_124 : decode cX4_says 124 = .ok (.invokevirtual 110, 3) := dk_182 0 110 (dk_at dksX4_says_5 6 rfl rfl)
theorem dX4_says_127 : decode cX4_says 127 = .ok (.goto 24, 3) := dk_167 0 24 (dk_at dksX4_says_5 9 rfl rfl)
theorem dX4_says_130 : decode cX4_says 130 = .ok (.aload_n 0, 1) := dk_42 (dk_at dksX4_says_5 12 rfl rfl)
theorem dX4_says_131 : decode cX4_says 131 = .ok (.aload_n 0, 1) := dk_42 (dk_at dksX4_says_5 13 rfl rfl)
theorem dX4_says_132 : decode cX4_says 132 = .ok (.getfield 28, 3) := dk_180 0 28 (dk_at dksX4_says_5 14 rfl rfl)
theorem dX4_says_135 : decode cX4_says 135 = .ok (.iload_n 1, 1) := dk_27 (dk_at dksX4_says_5 17 rfl rfl)
theorem dX4_says_136 : decode cX4_says 136 = .ok (.iaload, 1) := dk_46 (dk_at dksX4_says_5 18 rfl rfl)
theorem dX4_says_137 : decode cX4_says 137 = .ok (.aload_n 0, 1) := dk_42 (dk_at dksX4_says_5 19 rfl rfl)
theorem dX4_says_138 : decode cX4_says 138 = .ok (.getfield 31, 3) := dk_180 0 31 (dk_at dksX4_says_5 20 rfl rfl)
theorem dX4_says_141 : decode cX4_says 141 = .ok (.iload_n 1, 1) := dk_27 (dk_at dksX4_says_5 23 rfl rfl)
theorem dX4_says_142 : decode cX4_says 142 = .ok (.iaload, 1) := dk_46 (dk_at dksX4_says_6 0 rfl rfl)
theorem dX4_says_143 : decode cX4_says 143 = .ok (.iconst 0, 1) := dk_3 (dk_at dksX4_says_6 1 rfl rfl)
theorem dX4_says_144 : decode cX4_says 144 = .ok (.aload_n 0, 1) := dk_42 (dk_at dksX4_says_6 2 rfl rfl)
theorem dX4_says_145 : decode cX4_says 145 = .ok (.invokevirtual 129, 3) := dk_182 0 129 (dk_at dksX4_says_6 3 rfl rfl)
theorem dX4_says_148 : decode cX4_says 148 = .ok (.invokevirtual 133, 3) := dk_182 0 133 (dk_at dksX4_says_6 6 rfl rfl)
theorem dX4_says_151 : decode cX4_says 151 = .ok (.ireturn, 1) := dk_172 (dk_at dksX4_says_6 9 rfl rfl)
abbrev cX4_isUnder : ByteArray := prog_19_method_19_code
def yX4_isUnder : MethodName := ⟨RX4, "isUnder", "(II)Z"⟩
def dkwX4_isUnder_1 : List UInt8 := [27, 7, 160, 0, 12, 26, 8, 160, 0, 7, 4, 167, 0, 4, 3, 172]
abbrev dktX4_isUnder_1 : List UInt8 := dkwX4_isUnder_1 ++ []
def dkwX4_isUnder_0 : List UInt8 := [27, 153, 0, 33, 26, 27, 159, 0, 28, 27, 4, 160, 0, 13, 26, 5, 159, 0, 18, 26, 6, 159, 0, 13]
abbrev dktX4_isUnder_0 : List UInt8 := dkwX4_isUnder_0 ++ dktX4_isUnder_1
theorem dksX4_isUnder_0 : cX4_isUnder.data.toList.drop 0 = dktX4_isUnder_0 := by decide +kernel
theorem dksX4_isUnder_1 : cX4_isUnder.data.toList.drop 24 = dktX4_isUnder_1 := dk_seg dksX4_isUnder_0 24 rfl rfl
theorem dX4_isUnder_0 : decode cX4_isUnder 0 = .ok (.iload_n 1, 1) := dk_27 (dk_at dksX4_isUnder_0 0 rfl rfl)
theorem dX4_isUnder_1 : decode cX4_isUnder 1 = .ok (.ifCond .eq 33, 3) := dk_153 0 33 (dk_at dksX4_isUnder_0 1 rfl rfl)
theorem dX4_isUnder_4 : decode cX4_isUnder 4 = .ok (.iload_n 0, 1) := dk_26 (dk_at dksX4_isUnder_0 4 rfl rfl)
theorem dX4_isUnder_5 : decode cX4_isUnder 5 = .ok (.iload_n 1, 1) := dk_27 (dk_at dksX4_isUnder_0 5 rfl rfl)
theorem dX4_isUnder_6 : decode cX4_isUnder 6 = .ok (.if_icmp .eq 28, 3) := dk_159 0 28 (dk_at dksX4_isUnder_0 6 rfl rfl)
theorem dX4_isUnder_9 : decode cX4_isUnder 9 = .ok (.iload_n 1, 1) := dk_27 (dk_at dksX4_isUnder_0 9 rfl rfl)
theorem dX4_isUnder_10 : decode cX4_isUnder 10 = .ok (.iconst 1, 1) := dk_4 (dk_at dksX4_isUnder_0 10 rfl rfl)
theorem dX4_isUnder_11 : decode cX4_isUnder 11 = .ok (.if_icmp .ne 13, 3) := dk_160 0 13 (dk_at dksX4_isUnder_0 11 rfl rfl)
theorem dX4_isUnder_14 : decode cX4_isUnder 14 = .ok (.iload_n 0, 1) := dk_26 (dk_at dksX4_isUnder_0 14 rfl rfl)
theorem dX4_isUnder_15 : decode cX4_isUnder 15 = .ok (.iconst 2, 1) := dk_5 (dk_at dksX4_isUnder_0 15 rfl rfl)
theorem dX4_isUnder_16 : decode cX4_isUnder 16 = .ok (.if_icmp .eq 18, 3) := dk_159 0 18 (dk_at dksX4_isUnder_0 16 rfl rfl)
theorem dX4_isUnder_19 : decode cX4_isUnder 19 = .ok (.iload_n 0, 1) := dk_26 (dk_at dksX4_isUnder_0 19 rfl rfl)
theorem dX4_isUnder_20 : decode cX4_isUnder 20 = .ok (.iconst 3, 1) := dk_6 (dk_at dksX4_isUnder_0 20 rfl rfl)
theorem dX4_isUnder_21 : decode cX4_isUnder 21 = .ok (.if_icmp .eq 13, 3) := dk_159 0 13 (dk_at dksX4_isUnder_0 21 rfl rfl)
theorem dX4_isUnder_24 : decode cX4_isUnder 24 = .ok (.iload_n 1, 1) := dk_27 (dk_at dksX4_isUnder_1 0 rfl rfl)
theorem dX4_isUnder_25 : decode cX4_isUnder 25 = .ok (.iconst 4, 1) := dk_7 (dk_at dksX4_isUnder_1 1 rfl rfl)
theorem dX4_isUnder_26 : decode cX4_isUnder 26 = .ok (.if_icmp .ne 12, 3) := dk_160 0 12 (dk_at dksX4_isUnder_1 2 rfl rfl)
theorem dX4_isUnder_29 : decode cX4_isUnder 29 = .ok (.iload_n 0, 1) := dk_26 (dk_at dksX4_isUnder_1 5 rfl rfl)
theorem dX4_isUnder_30 : decode cX4_isUnder 30 = .ok (.iconst 5, 1) := dk_8 (dk_at dksX4_isUnder_1 6 rfl rfl)
theorem dX4_isUnder_31 : decode cX4_isUnder 31 = .ok (.if_icmp .ne 7, 3) := dk_160 0 7 (dk_at dksX4_isUnder_1 7 rfl rfl)
theorem dX4_isUnder_34 : decode cX4_isUnder 34 = .ok (.iconst 1, 1) := dk_4 (dk_at dksX4_isUnder_1 10 rfl rfl)
theorem dX4_isUnder_35 : decode cX4_isUnder 35 = .ok (.goto 4, 3) := dk_167 0 4 (dk_at dksX4_isUnder_1 11 rfl rfl)
theorem dX4_isUnder_38 : decode cX4_isUnder 38 = .ok (.iconst 0, 1) := dk_3 (dk_at dksX4_isUnder_1 14 rfl rfl)
theorem dX4_isUnder_39 : decode cX4_isUnder 39 = .ok (.ireturn, 1) := dk_172 (dk_at dksX4_isUnder_1 15 rfl rfl)
abbrev cX4_hoursOf : ByteArray := prog_19_method_43_code
def yX4_hoursOf : MethodName := ⟨RX4, "hoursOf", "(I)I"⟩
def dkwX4_hoursOf_0 : List UInt8 := [26, 16, 20, 164, 0, 8, 16, 20, 167, 0, 4, 26, 172]
abbrev dktX4_hoursOf_0 : List UInt8 := dkwX4_hoursOf_0 ++ []
theorem dksX4_hoursOf_0 : cX4_hoursOf.data.toList.drop 0 = dktX4_hoursOf_0 := by decide +kernel
theorem dX4_hoursOf_0 : decode cX4_hoursOf 0 = .ok (.iload_n 0, 1) := dk_26 (dk_at dksX4_hoursOf_0 0 rfl rfl)
theorem dX4_hoursOf_1 : decode cX4_hoursOf 1 = .ok (.bipush 20, 2) := dk_16 20 (dk_at dksX4_hoursOf_0 1 rfl rfl)
theorem dX4_hoursOf_3 : decode cX4_hoursOf 3 = .ok (.if_icmp .le 8, 3) := dk_164 0 8 (dk_at dksX4_hoursOf_0 3 rfl rfl)
theorem dX4_hoursOf_6 : decode cX4_hoursOf 6 = .ok (.bipush 20, 2) := dk_16 20 (dk_at dksX4_hoursOf_0 6 rfl rfl)
theorem dX4_hoursOf_8 : decode cX4_hoursOf 8 = .ok (.goto 4, 3) := dk_167 0 4 (dk_at dksX4_hoursOf_0 8 rfl rfl)
theorem dX4_hoursOf_11 : decode cX4_hoursOf 11 = .ok (.iload_n 0, 1) := dk_26 (dk_at dksX4_hoursOf_0 11 rfl rfl)
theorem dX4_hoursOf_12 : decode cX4_hoursOf 12 = .ok (.ireturn, 1) := dk_172 (dk_at dksX4_hoursOf_0 12 rfl rfl)
abbrev cX4_stateNow : ByteArray := prog_19_method_10_code
def yX4_stateNow : MethodName := ⟨RX4, "stateNow", "()I"⟩
def dkwX4_stateNow_1 : List UInt8 := [46, 100, 42, 180, 0, 40, 5, 46, 42, 180, 0, 43, 5, 46, 100, 184, 0, 94, 172]
abbrev dktX4_stateNow_1 : List UInt8 := dkwX4_stateNow_1 ++ []
def dkwX4_stateNow_0 : List UInt8 := [42, 180, 0, 40, 3, 46, 42, 180, 0, 43, 3, 46, 100, 42, 180, 0, 40, 4, 46, 42, 180, 0, 43, 4]
abbrev dktX4_stateNow_0 : List UInt8 := dkwX4_stateNow_0 ++ dktX4_stateNow_1
theorem dksX4_stateNow_0 : cX4_stateNow.data.toList.drop 0 = dktX4_stateNow_0 := by decide +kernel
theorem dksX4_stateNow_1 : cX4_stateNow.data.toList.drop 24 = dktX4_stateNow_1 := dk_seg dksX4_stateNow_0 24 rfl rfl
theorem dX4_stateNow_0 : decode cX4_stateNow 0 = .ok (.aload_n 0, 1) := dk_42 (dk_at dksX4_stateNow_0 0 rfl rfl)
theorem dX4_stateNow_1 : decode cX4_stateNow 1 = .ok (.getfield 40, 3) := dk_180 0 40 (dk_at dksX4_stateNow_0 1 rfl rfl)
theorem dX4_stateNow_4 : decode cX4_stateNow 4 = .ok (.iconst 0, 1) := dk_3 (dk_at dksX4_stateNow_0 4 rfl rfl)
theorem dX4_stateNow_5 : decode cX4_stateNow 5 = .ok (.iaload, 1) := dk_46 (dk_at dksX4_stateNow_0 5 rfl rfl)
theorem dX4_stateNow_6 : decode cX4_stateNow 6 = .ok (.aload_n 0, 1) := dk_42 (dk_at dksX4_stateNow_0 6 rfl rfl)
theorem dX4_stateNow_7 : decode cX4_stateNow 7 = .ok (.getfield 43, 3) := dk_180 0 43 (dk_at dksX4_stateNow_0 7 rfl rfl)
theorem dX4_stateNow_10 : decode cX4_stateNow 10 = .ok (.iconst 0, 1) := dk_3 (dk_at dksX4_stateNow_0 10 rfl rfl)
theorem dX4_stateNow_11 : decode cX4_stateNow 11 = .ok (.iaload, 1) := dk_46 (dk_at dksX4_stateNow_0 11 rfl rfl)
theorem dX4_stateNow_12 : decode cX4_stateNow 12 = .ok (.isub, 1) := dk_100 (dk_at dksX4_stateNow_0 12 rfl rfl)
theorem dX4_stateNow_13 : decode cX4_stateNow 13 = .ok (.aload_n 0, 1) := dk_42 (dk_at dksX4_stateNow_0 13 rfl rfl)
theorem dX4_stateNow_14 : decode cX4_stateNow 14 = .ok (.getfield 40, 3) := dk_180 0 40 (dk_at dksX4_stateNow_0 14 rfl rfl)
theorem dX4_stateNow_17 : decode cX4_stateNow 17 = .ok (.iconst 1, 1) := dk_4 (dk_at dksX4_stateNow_0 17 rfl rfl)
theorem dX4_stateNow_18 : decode cX4_stateNow 18 = .ok (.iaload, 1) := dk_46 (dk_at dksX4_stateNow_0 18 rfl rfl)
theorem dX4_stateNow_19 : decode cX4_stateNow 19 = .ok (.aload_n 0, 1) := dk_42 (dk_at dksX4_stateNow_0 19 rfl rfl)
theorem dX4_stateNow_20 : decode cX4_stateNow 20 = .ok (.getfield 43, 3) := dk_180 0 43 (dk_at dksX4_stateNow_0 20 rfl rfl)
theorem dX4_stateNow_23 : decode cX4_stateNow 23 = .ok (.iconst 1, 1) := dk_4 (dk_at dksX4_stateNow_0 23 rfl rfl)
theorem dX4_stateNow_24 : decode cX4_stateNow 24 = .ok (.iaload, 1) := dk_46 (dk_at dksX4_stateNow_1 0 rfl rfl)
theorem dX4_stateNow_25 : decode cX4_stateNow 25 = .ok (.isub, 1) := dk_100 (dk_at dksX4_stateNow_1 1 rfl rfl)
theorem dX4_stateNow_26 : decode cX4_stateNow 26 = .ok (.aload_n 0, 1) := dk_42 (dk_at dksX4_stateNow_1 2 rfl rfl)
theorem dX4_stateNow_27 : decode cX4_stateNow 27 = .ok (.getfield 40, 3) := dk_180 0 40 (dk_at dksX4_stateNow_1 3 rfl rfl)
theorem dX4_stateNow_30 : decode cX4_stateNow 30 = .ok (.iconst 2, 1) := dk_5 (dk_at dksX4_stateNow_1 6 rfl rfl)
theorem dX4_stateNow_31 : decode cX4_stateNow 31 = .ok (.iaload, 1) := dk_46 (dk_at dksX4_stateNow_1 7 rfl rfl)
theorem dX4_stateNow_32 : decode cX4_stateNow 32 = .ok (.aload_n 0, 1) := dk_42 (dk_at dksX4_stateNow_1 8 rfl rfl)
theorem dX4_stateNow_33 : decode cX4_stateNow 33 = .ok (.getfield 43, 3) := dk_180 0 43 (dk_at dksX4_stateNow_1 9 rfl rfl)
theorem dX4_stateNow_36 : decode cX4_stateNow 36 = .ok (.iconst 2, 1) := dk_5 (dk_at dksX4_stateNow_1 12 rfl rfl)
theorem dX4_stateNow_37 : decode cX4_stateNow 37 = .ok (.iaload, 1) := dk_46 (dk_at dksX4_stateNow_1 13 rfl rfl)
theorem dX4_stateNow_38 : decode cX4_stateNow 38 = .ok (.isub, 1) := dk_100 (dk_at dksX4_stateNow_1 14 rfl rfl)
theorem dX4_stateNow_39 : decode cX4_stateNow 39 = .ok (.invokestatic 94, 3) := dk_184 0 94 (dk_at dksX4_stateNow_1 15 rfl rfl)
theorem dX4_stateNow_42 : decode cX4_stateNow 42 = .ok (.ireturn, 1) := dk_172 (dk_at dksX4_stateNow_1 18 rfl rfl)
abbrev cX4_code : ByteArray := prog_19_method_7_code
def yX4_code : MethodName := ⟨RX4, "code", "(III)I"⟩
def dkwX4_code_0 : List UInt8 := [26, 8, 27, 104, 96, 16, 25, 28, 104, 96, 172]
abbrev dktX4_code_0 : List UInt8 := dkwX4_code_0 ++ []
theorem dksX4_code_0 : cX4_code.data.toList.drop 0 = dktX4_code_0 := by decide +kernel
theorem dX4_code_0 : decode cX4_code 0 = .ok (.iload_n 0, 1) := dk_26 (dk_at dksX4_code_0 0 rfl rfl)
theorem dX4_code_1 : decode cX4_code 1 = .ok (.iconst 5, 1) := dk_8 (dk_at dksX4_code_0 1 rfl rfl)
theorem dX4_code_2 : decode cX4_code 2 = .ok (.iload_n 1, 1) := dk_27 (dk_at dksX4_code_0 2 rfl rfl)
theorem dX4_code_3 : decode cX4_code 3 = .ok (.imul, 1) := dk_104 (dk_at dksX4_code_0 3 rfl rfl)
theorem dX4_code_4 : decode cX4_code 4 = .ok (.iadd, 1) := dk_96 (dk_at dksX4_code_0 4 rfl rfl)
theorem dX4_code_5 : decode cX4_code 5 = .ok (.bipush 25, 2) := dk_16 25 (dk_at dksX4_code_0 5 rfl rfl)
theorem dX4_code_7 : decode cX4_code 7 = .ok (.iload_n 2, 1) := dk_28 (dk_at dksX4_code_0 7 rfl rfl)
theorem dX4_code_8 : decode cX4_code 8 = .ok (.imul, 1) := dk_104 (dk_at dksX4_code_0 8 rfl rfl)
theorem dX4_code_9 : decode cX4_code 9 = .ok (.iadd, 1) := dk_96 (dk_at dksX4_code_0 9 rfl rfl)
theorem dX4_code_10 : decode cX4_code 10 = .ok (.ireturn, 1) := dk_172 (dk_at dksX4_code_0 10 rfl rfl)
abbrev cX4_gives : ByteArray := prog_19_method_50_code
def yX4_gives : MethodName := ⟨RX4, "gives", "(IIII)I"⟩
def dkwX4_gives_0 : List UInt8 := [27, 16, 6, 160, 0, 8, 42, 28, 182, 1, 20, 42, 27, 28, 29, 21, 4, 182, 1, 24, 172]
abbrev dktX4_gives_0 : List UInt8 := dkwX4_gives_0 ++ []
theorem dksX4_gives_0 : cX4_gives.data.toList.drop 0 = dktX4_gives_0 := by decide +kernel
theorem dX4_gives_0 : decode cX4_gives 0 = .ok (.iload_n 1, 1) := dk_27 (dk_at dksX4_gives_0 0 rfl rfl)
theorem dX4_gives_1 : decode cX4_gives 1 = .ok (.bipush 6, 2) := dk_16 6 (dk_at dksX4_gives_0 1 rfl rfl)
theorem dX4_gives_3 : decode cX4_gives 3 = .ok (.if_icmp .ne 8, 3) := dk_160 0 8 (dk_at dksX4_gives_0 3 rfl rfl)
theorem dX4_gives_6 : decode cX4_gives 6 = .ok (.aload_n 0, 1) := dk_42 (dk_at dksX4_gives_0 6 rfl rfl)
theorem dX4_gives_7 : decode cX4_gives 7 = .ok (.iload_n 2, 1) := dk_28 (dk_at dksX4_gives_0 7 rfl rfl)
theorem dX4_gives_8 : decode cX4_gives 8 = .ok (.invokevirtual 276, 3) := dk_182 1 20 (dk_at dksX4_gives_0 8 rfl rfl)
theorem dX4_gives_11 : decode cX4_gives 11 = .ok (.aload_n 0, 1) := dk_42 (dk_at dksX4_gives_0 11 rfl rfl)
theorem dX4_gives_12 : decode cX4_gives 12 = .ok (.iload_n 1, 1) := dk_27 (dk_at dksX4_gives_0 12 rfl rfl)
theorem dX4_gives_13 : decode cX4_gives 13 = .ok (.iload_n 2, 1) := dk_28 (dk_at dksX4_gives_0 13 rfl rfl)
theorem dX4_gives_14 : decode cX4_gives 14 = .ok (.iload_n 3, 1) := dk_29 (dk_at dksX4_gives_0 14 rfl rfl)
theorem dX4_gives_15 : decode cX4_gives 15 = .ok (.iload 4, 2) := dk_21 4 (dk_at dksX4_gives_0 15 rfl rfl)
theorem dX4_gives_17 : decode cX4_gives 17 = .ok (.invokevirtual 280, 3) := dk_182 1 24 (dk_at dksX4_gives_0 17 rfl rfl)
theorem dX4_gives_20 : decode cX4_gives 20 = .ok (.ireturn, 1) := dk_172 (dk_at dksX4_gives_0 20 rfl rfl)
abbrev cX4_beWise : ByteArray := prog_19_method_49_code
def yX4_beWise : MethodName := ⟨RX4, "beWise", "(I)V"⟩
def dkwX4_beWise_3 : List UInt8 := [132, 2, 1, 167, 255, 196, 177]
abbrev dktX4_beWise_3 : List UInt8 := dkwX4_beWise_3 ++ []
def dkwX4_beWise_2 : List UInt8 := [180, 0, 70, 27, 184, 0, 126, 50, 182, 1, 16, 167, 0, 4, 2, 79, 132, 3, 1, 167, 255, 212]
abbrev dktX4_beWise_2 : List UInt8 := dkwX4_beWise_2 ++ dktX4_beWise_3
def dkwX4_beWise_1 : List UInt8 := [16, 125, 162, 0, 44, 42, 180, 0, 67, 28, 50, 29, 42, 29, 182, 1, 13, 153, 0, 21, 42, 28, 29, 42]
abbrev dktX4_beWise_1 : List UInt8 := dkwX4_beWise_1 ++ dktX4_beWise_2
def dkwX4_beWise_0 : List UInt8 := [42, 27, 184, 0, 126, 3, 3, 2, 182, 1, 9, 3, 61, 28, 42, 180, 0, 85, 162, 0, 58, 3, 62, 29]
abbrev dktX4_beWise_0 : List UInt8 := dkwX4_beWise_0 ++ dktX4_beWise_1
theorem dksX4_beWise_0 : cX4_beWise.data.toList.drop 0 = dktX4_beWise_0 := by decide +kernel
theorem dksX4_beWise_1 : cX4_beWise.data.toList.drop 24 = dktX4_beWise_1 := dk_seg dksX4_beWise_0 24 rfl rfl
theorem dksX4_beWise_2 : cX4_beWise.data.toList.drop 48 = dktX4_beWise_2 := dk_seg dksX4_beWise_1 24 rfl rfl
theorem dksX4_beWise_3 : cX4_beWise.data.toList.drop 70 = dktX4_beWise_3 := dk_seg dksX4_beWise_2 22 rfl rfl
theorem dX4_beWise_0 : decode cX4_beWise 0 = .ok (.aload_n 0, 1) := dk_42 (dk_at dksX4_beWise_0 0 rfl rfl)
theorem dX4_beWise_1 : decode cX4_beWise 1 = .ok (.iload_n 1, 1) := dk_27 (dk_at dksX4_beWise_0 1 rfl rfl)
theorem dX4_beWise_2 : decode cX4_beWise 2 = .ok (.invokestatic 126, 3) := dk_184 0 126 (dk_at dksX4_beWise_0 2 rfl rfl)
theorem dX4_beWise_5 : decode cX4_beWise 5 = .ok (.iconst 0, 1) := dk_3 (dk_at dksX4_beWise_0 5 rfl rfl)
theorem dX4_beWise_6 : decode cX4_beWise 6 = .ok (.iconst 0, 1) := dk_3 (dk_at dksX4_beWise_0 6 rfl rfl)
theorem dX4_beWise_7 : decode cX4_beWise 7 = .ok (.iconst (-1), 1) := dk_2 (dk_at dksX4_beWise_0 7 rfl rfl)
theorem dX4_beWise_8 : decode cX4_beWise 8 = .ok (.invokevirtual 265, 3) := dk_182 1 9 (dk_at dksX4_beWise_0 8 rfl rfl)
theorem dX4_beWise_11 : decode cX4_beWise 11 = .ok (.iconst 0, 1) := dk_3 (dk_at dksX4_beWise_0 11 rfl rfl)
theorem dX4_beWise_12 : decode cX4_beWise 12 = .ok (.istore_n 2, 1) := dk_61 (dk_at dksX4_beWise_0 12 rfl rfl)
theorem dX4_beWise_13 : decode cX4_beWise 13 = .ok (.iload_n 2, 1) := dk_28 (dk_at dksX4_beWise_0 13 rfl rfl)
theorem dX4_beWise_14 : decode cX4_beWise 14 = .ok (.aload_n 0, 1) := dk_42 (dk_at dksX4_beWise_0 14 rfl rfl)
theorem dX4_beWise_15 : decode cX4_beWise 15 = .ok (.getfield 85, 3) := dk_180 0 85 (dk_at dksX4_beWise_0 15 rfl rfl)
theorem dX4_beWise_18 : decode cX4_beWise 18 = .ok (.if_icmp .ge 58, 3) := dk_162 0 58 (dk_at dksX4_beWise_0 18 rfl rfl)
theorem dX4_beWise_21 : decode cX4_beWise 21 = .ok (.iconst 0, 1) := dk_3 (dk_at dksX4_beWise_0 21 rfl rfl)
theorem dX4_beWise_22 : decode cX4_beWise 22 = .ok (.istore_n 3, 1) := dk_62 (dk_at dksX4_beWise_0 22 rfl rfl)
theorem dX4_beWise_23 : decode cX4_beWise 23 = .ok (.iload_n 3, 1) := dk_29 (dk_at dksX4_beWise_0 23 rfl rfl)
theorem dX4_beWise_24 : decode cX4_beWise 24 = .ok (.bipush 125, 2) := dk_16 125 (dk_at dksX4_beWise_1 0 rfl rfl)
theorem dX4_beWise_26 : decode cX4_beWise 26 = .ok (.if_icmp .ge 44, 3) := dk_162 0 44 (dk_at dksX4_beWise_1 2 rfl rfl)
theorem dX4_beWise_29 : decode cX4_beWise 29 = .ok (.aload_n 0, 1) := dk_42 (dk_at dksX4_beWise_1 5 rfl rfl)
theorem dX4_beWise_30 : decode cX4_beWise 30 = .ok (.getfield 67, 3) := dk_180 0 67 (dk_at dksX4_beWise_1 6 rfl rfl)
theorem dX4_beWise_33 : decode cX4_beWise 33 = .ok (.iload_n 2, 1) := dk_28 (dk_at dksX4_beWise_1 9 rfl rfl)
theorem dX4_beWise_34 : decode cX4_beWise 34 = .ok (.aaload, 1) := dk_50 (dk_at dksX4_beWise_1 10 rfl rfl)
theorem dX4_beWise_35 : decode cX4_beWise 35 = .ok (.iload_n 3, 1) := dk_29 (dk_at dksX4_beWise_1 11 rfl rfl)
theorem dX4_beWise_36 : decode cX4_beWise 36 = .ok (.aload_n 0, 1) := dk_42 (dk_at dksX4_beWise_1 12 rfl rfl)
theorem dX4_beWise_37 : decode cX4_beWise 37 = .ok (.iload_n 3, 1) := dk_29 (dk_at dksX4_beWise_1 13 rfl rfl)
theorem dX4_beWise_38 : decode cX4_beWise 38 = .ok (.invokevirtual 269, 3) := dk_182 1 13 (dk_at dksX4_beWise_1 14 rfl rfl)
theorem dX4_beWise_41 : decode cX4_beWise 41 = .ok (.ifCond .eq 21, 3) := dk_153 0 21 (dk_at dksX4_beWise_1 17 rfl rfl)
theorem dX4_beWise_44 : decode cX4_beWise 44 = .ok (.aload_n 0, 1) := dk_42 (dk_at dksX4_beWise_1 20 rfl rfl)
theorem dX4_beWise_45 : decode cX4_beWise 45 = .ok (.iload_n 2, 1) := dk_28 (dk_at dksX4_beWise_1 21 rfl rfl)
theorem dX4_beWise_46 : decode cX4_beWise 46 = .ok (.iload_n 3, 1) := dk_29 (dk_at dksX4_beWise_1 22 rfl rfl)
theorem dX4_beWise_47 : decode cX4_beWise 47 = .ok (.aload_n 0, 1) := dk_42 (dk_at dksX4_beWise_1 23 rfl rfl)
theorem dX4_beWise_48 : decode cX4_beWise 48 = .ok (.getfield 70, 3) := dk_180 0 70 (dk_at dksX4_beWise_2 0 rfl rfl)
theorem dX4_beWise_51 : decode cX4_beWise 51 = .ok (.iload_n 1, 1) := dk_27 (dk_at dksX4_beWise_2 3 rfl rfl)
theorem dX4_beWise_52 : decode cX4_beWise 52 = .ok (.invokestatic 126, 3) := dk_184 0 126 (dk_at dksX4_beWise_2 4 rfl rfl)
theorem dX4_beWise_55 : decode cX4_beWise 55 = .ok (.aaload, 1) := dk_50 (dk_at dksX4_beWise_2 7 rfl rfl)
theorem dX4_beWise_56 : decode cX4_beWise 56 = .ok (.invokevirtual 272, 3) := dk_182 1 16 (dk_at dksX4_beWise_2 8 rfl rfl)
theorem dX4_beWise_59 : decode cX4_beWise 59 = .ok (.goto 4, 3) := dk_167 0 4 (dk_at dksX4_beWise_2 11 rfl rfl)
theorem dX4_beWise_62 : decode cX4_beWise 62 = .ok (.iconst (-1), 1) := dk_2 (dk_at dksX4_beWise_2 14 rfl rfl)
theorem dX4_beWise_63 : decode cX4_beWise 63 = .ok (.iastore, 1) := dk_79 (dk_at dksX4_beWise_2 15 rfl rfl)
theorem dX4_beWise_64 : decode cX4_beWise 64 = .ok (.iinc 3 1, 3) := dk_132 3 1 (dk_at dksX4_beWise_2 16 rfl rfl)
theorem dX4_beWise_67 : decode cX4_beWise 67 = .ok (.goto (-44), 3) := dk_167 255 212 (dk_at dksX4_beWise_2 19 rfl rfl)
theorem dX4_beWise_70 : decode cX4_beWise 70 = .ok (.iinc 2 1, 3) := dk_132 2 1 (dk_at dksX4_beWise_3 0 rfl rfl)
theorem dX4_beWise_73 : decode cX4_beWise 73 = .ok (.goto (-60), 3) := dk_167 255 196 (dk_at dksX4_beWise_3 3 rfl rfl)
theorem dX4_beWise_76 : decode cX4_beWise 76 = .ok (.return_, 1) := dk_177 (dk_at dksX4_beWise_3 6 rfl rfl)
abbrev cX4_solve : ByteArray := prog_19_method_53_code
def yX4_solve : MethodName := ⟨RX4, "solve", "(IIII)V"⟩
def dkwX4_solve_6 : List UInt8 := [9, 80, 132, 6, 1, 167, 255, 201, 132, 5, 1, 167, 255, 133, 177]
abbrev dktX4_solve_6 : List UInt8 := dkwX4_solve_6 ++ []
def dkwX4_solve_5 : List UInt8 := [21, 6, 21, 5, 27, 160, 0, 8, 21, 4, 167, 0, 4, 2, 182, 1, 34, 20, 0, 184, 109, 167, 0, 4]
abbrev dktX4_solve_5 : List UInt8 := dkwX4_solve_5 ++ dktX4_solve_6
def dkwX4_solve_4 : List UInt8 := [16, 125, 162, 0, 54, 42, 180, 0, 70, 21, 5, 50, 21, 6, 42, 21, 6, 182, 1, 13, 153, 0, 28, 42]
abbrev dktX4_solve_4 : List UInt8 := dkwX4_solve_4 ++ dktX4_solve_5
def dkwX4_solve_3 : List UInt8 := [21, 5, 4, 100, 50, 182, 1, 30, 167, 0, 4, 9, 80, 132, 6, 1, 167, 255, 209, 3, 54, 6, 21, 6]
abbrev dktX4_solve_3 : List UInt8 := dkwX4_solve_3 ++ dktX4_solve_4
def dkwX4_solve_2 : List UInt8 := [180, 0, 73, 21, 6, 42, 21, 6, 182, 1, 13, 153, 0, 23, 42, 21, 6, 28, 29, 42, 180, 0, 70]
abbrev dktX4_solve_2 : List UInt8 := dkwX4_solve_2 ++ dktX4_solve_3
def dkwX4_solve_1 : List UInt8 := [167, 255, 236, 4, 54, 5, 21, 5, 27, 163, 0, 123, 3, 54, 6, 21, 6, 16, 125, 162, 0, 46, 42]
abbrev dktX4_solve_1 : List UInt8 := dkwX4_solve_1 ++ dktX4_solve_2
def dkwX4_solve_0 : List UInt8 := [3, 54, 5, 21, 5, 16, 125, 162, 0, 19, 42, 180, 0, 70, 3, 50, 21, 5, 9, 80, 132, 5, 1]
abbrev dktX4_solve_0 : List UInt8 := dkwX4_solve_0 ++ dktX4_solve_1
theorem dksX4_solve_0 : cX4_solve.data.toList.drop 0 = dktX4_solve_0 := by decide +kernel
theorem dksX4_solve_1 : cX4_solve.data.toList.drop 23 = dktX4_solve_1 := dk_seg dksX4_solve_0 23 rfl rfl
theorem dksX4_solve_2 : cX4_solve.data.toList.drop 46 = dktX4_solve_2 := dk_seg dksX4_solve_1 23 rfl rfl
theorem dksX4_solve_3 : cX4_solve.data.toList.drop 69 = dktX4_solve_3 := dk_seg dksX4_solve_2 23 rfl rfl
theorem dksX4_solve_4 : cX4_solve.data.toList.drop 93 = dktX4_solve_4 := dk_seg dksX4_solve_3 24 rfl rfl
theorem dksX4_solve_5 : cX4_solve.data.toList.drop 117 = dktX4_solve_5 := dk_seg dksX4_solve_4 24 rfl rfl
theorem dksX4_solve_6 : cX4_solve.data.toList.drop 141 = dktX4_solve_6 := dk_seg dksX4_solve_5 24 rfl rfl
theorem dX4_solve_0 : decode cX4_solve 0 = .ok (.iconst 0, 1) := dk_3 (dk_at dksX4_solve_0 0 rfl rfl)
theorem dX4_solve_1 : decode cX4_solve 1 = .ok (.istore 5, 2) := dk_54 5 (dk_at dksX4_solve_0 1 rfl rfl)
theorem dX4_solve_3 : decode cX4_solve 3 = .ok (.iload 5, 2) := dk_21 5 (dk_at dksX4_solve_0 3 rfl rfl)
theorem dX4_solve_5 : decode cX4_solve 5 = .ok (.bipush 125, 2) := dk_16 125 (dk_at dksX4_solve_0 5 rfl rfl)
theorem dX4_solve_7 : decode cX4_solve 7 = .ok (.if_icmp .ge 19, 3) := dk_162 0 19 (dk_at dksX4_solve_0 7 rfl rfl)
theorem dX4_solve_10 : decode cX4_solve 10 = .ok (.aload_n 0, 1) := dk_42 (dk_at dksX4_solve_0 10 rfl rfl)
theorem dX4_solve_11 : decode cX4_solve 11 = .ok (.getfield 70, 3) := dk_180 0 70 (dk_at dksX4_solve_0 11 rfl rfl)
theorem dX4_solve_14 : decode cX4_solve 14 = .ok (.iconst 0, 1) := dk_3 (dk_at dksX4_solve_0 14 rfl rfl)
theorem dX4_solve_15 : decode cX4_solve 15 = .ok (.aaload, 1) := dk_50 (dk_at dksX4_solve_0 15 rfl rfl)
theorem dX4_solve_16 : decode cX4_solve 16 = .ok (.iload 5, 2) := dk_21 5 (dk_at dksX4_solve_0 16 rfl rfl)
theorem dX4_solve_18 : decode cX4_solve 18 = .ok (.lconst 0, 1) := dk_9 (dk_at dksX4_solve_0 18 rfl rfl)
theorem dX4_solve_19 : decode cX4_solve 19 = .ok (.lastore, 1) := dk_80 (dk_at dksX4_solve_0 19 rfl rfl)
theorem dX4_solve_20 : decode cX4_solve 20 = .ok (.iinc 5 1, 3) := dk_132 5 1 (dk_at dksX4_solve_0 20 rfl rfl)
theorem dX4_solve_23 : decode cX4_solve 23 = .ok (.goto (-20), 3) := dk_167 255 236 (dk_at dksX4_solve_1 0 rfl rfl)
theorem dX4_solve_26 : decode cX4_solve 26 = .ok (.iconst 1, 1) := dk_4 (dk_at dksX4_solve_1 3 rfl rfl)
theorem dX4_solve_27 : decode cX4_solve 27 = .ok (.istore 5, 2) := dk_54 5 (dk_at dksX4_solve_1 4 rfl rfl)
theorem dX4_solve_29 : decode cX4_solve 29 = .ok (.iload 5, 2) := dk_21 5 (dk_at dksX4_solve_1 6 rfl rfl)
theorem dX4_solve_31 : decode cX4_solve 31 = .ok (.iload_n 1, 1) := dk_27 (dk_at dksX4_solve_1 8 rfl rfl)
theorem dX4_solve_32 : decode cX4_solve 32 = .ok (.if_icmp .gt 123, 3) := dk_163 0 123 (dk_at dksX4_solve_1 9 rfl rfl)
theorem dX4_solve_35 : decode cX4_solve 35 = .ok (.iconst 0, 1) := dk_3 (dk_at dksX4_solve_1 12 rfl rfl)
theorem dX4_solve_36 : decode cX4_solve 36 = .ok (.istore 6, 2) := dk_54 6 (dk_at dksX4_solve_1 13 rfl rfl)
theorem dX4_solve_38 : decode cX4_solve 38 = .ok (.iload 6, 2) := dk_21 6 (dk_at dksX4_solve_1 15 rfl rfl)
theorem dX4_solve_40 : decode cX4_solve 40 = .ok (.bipush 125, 2) := dk_16 125 (dk_at dksX4_solve_1 17 rfl rfl)
theorem dX4_solve_42 : decode cX4_solve 42 = .ok (.if_icmp .ge 46, 3) := dk_162 0 46 (dk_at dksX4_solve_1 19 rfl rfl)
theorem dX4_solve_45 : decode cX4_solve 45 = .ok (.aload_n 0, 1) := dk_42 (dk_at dksX4_solve_1 22 rfl rfl)
theorem dX4_solve_46 : decode cX4_solve 46 = .ok (.getfield 73, 3) := dk_180 0 73 (dk_at dksX4_solve_2 0 rfl rfl)
theorem dX4_solve_49 : decode cX4_solve 49 = .ok (.iload 6, 2) := dk_21 6 (dk_at dksX4_solve_2 3 rfl rfl)
theorem dX4_solve_51 : decode cX4_solve 51 = .ok (.aload_n 0, 1) := dk_42 (dk_at dksX4_solve_2 5 rfl rfl)
theorem dX4_solve_52 : decode cX4_solve 52 = .ok (.iload 6, 2) := dk_21 6 (dk_at dksX4_solve_2 6 rfl rfl)
theorem dX4_solve_54 : decode cX4_solve 54 = .ok (.invokevirtual 269, 3) := dk_182 1 13 (dk_at dksX4_solve_2 8 rfl rfl)
theorem dX4_solve_57 : decode cX4_solve 57 = .ok (.ifCond .eq 23, 3) := dk_153 0 23 (dk_at dksX4_solve_2 11 rfl rfl)
theorem dX4_solve_60 : decode cX4_solve 60 = .ok (.aload_n 0, 1) := dk_42 (dk_at dksX4_solve_2 14 rfl rfl)
theorem dX4_solve_61 : decode cX4_solve 61 = .ok (.iload 6, 2) := dk_21 6 (dk_at dksX4_solve_2 15 rfl rfl)
theorem dX4_solve_63 : decode cX4_solve 63 = .ok (.iload_n 2, 1) := dk_28 (dk_at dksX4_solve_2 17 rfl rfl)
theorem dX4_solve_64 : decode cX4_solve 64 = .ok (.iload_n 3, 1) := dk_29 (dk_at dksX4_solve_2 18 rfl rfl)
theorem dX4_solve_65 : decode cX4_solve 65 = .ok (.aload_n 0, 1) := dk_42 (dk_at dksX4_solve_2 19 rfl rfl)
theorem dX4_solve_66 : decode cX4_solve 66 = .ok (.getfield 70, 3) := dk_180 0 70 (dk_at dksX4_solve_2 20 rfl rfl)
theorem dX4_solve_69 : decode cX4_solve 69 = .ok (.iload 5, 2) := dk_21 5 (dk_at dksX4_solve_3 0 rfl rfl)
theorem dX4_solve_71 : decode cX4_solve 71 = .ok (.iconst 1, 1) := dk_4 (dk_at dksX4_solve_3 2 rfl rfl)
theorem dX4_solve_72 : decode cX4_solve 72 = .ok (.isub, 1) := dk_100 (dk_at dksX4_solve_3 3 rfl rfl)
theorem dX4_solve_73 : decode cX4_solve 73 = .ok (.aaload, 1) := dk_50 (dk_at dksX4_solve_3 4 rfl rfl)
theorem dX4_solve_74 : decode cX4_solve 74 = .ok (.invokevirtual 286, 3) := dk_182 1 30 (dk_at dksX4_solve_3 5 rfl rfl)
theorem dX4_solve_77 : decode cX4_solve 77 = .ok (.goto 4, 3) := dk_167 0 4 (dk_at dksX4_solve_3 8 rfl rfl)
theorem dX4_solve_80 : decode cX4_solve 80 = .ok (.lconst 0, 1) := dk_9 (dk_at dksX4_solve_3 11 rfl rfl)
theorem dX4_solve_81 : decode cX4_solve 81 = .ok (.lastore, 1) := dk_80 (dk_at dksX4_solve_3 12 rfl rfl)
theorem dX4_solve_82 : decode cX4_solve 82 = .ok (.iinc 6 1, 3) := dk_132 6 1 (dk_at dksX4_solve_3 13 rfl rfl)
theorem dX4_solve_85 : decode cX4_solve 85 = .ok (.goto (-47), 3) := dk_167 255 209 (dk_at dksX4_solve_3 16 rfl rfl)
theorem dX4_solve_88 : decode cX4_solve 88 = .ok (.iconst 0, 1) := dk_3 (dk_at dksX4_solve_3 19 rfl rfl)
theorem dX4_solve_89 : decode cX4_solve 89 = .ok (.istore 6, 2) := dk_54 6 (dk_at dksX4_solve_3 20 rfl rfl)
theorem dX4_solve_91 : decode cX4_solve 91 = .ok (.iload 6, 2) := dk_21 6 (dk_at dksX4_solve_3 22 rfl rfl)
theorem dX4_solve_93 : decode cX4_solve 93 = .ok (.bipush 125, 2) := dk_16 125 (dk_at dksX4_solve_4 0 rfl rfl)
theorem dX4_solve_95 : decode cX4_solve 95 = .ok (.if_icmp .ge 54, 3) := dk_162 0 54 (dk_at dksX4_solve_4 2 rfl rfl)
theorem dX4_solve_98 : decode cX4_solve 98 = .ok (.aload_n 0, 1) := dk_42 (dk_at dksX4_solve_4 5 rfl rfl)
theorem dX4_solve_99 : decode cX4_solve 99 = .ok (.getfield 70, 3) := dk_180 0 70 (dk_at dksX4_solve_4 6 rfl rfl)
theorem dX4_solve_102 : decode cX4_solve 102 = .ok (.iload 5, 2) := dk_21 5 (dk_at dksX4_solve_4 9 rfl rfl)
theorem dX4_solve_104 : decode cX4_solve 104 = .ok (.aaload, 1) := dk_50 (dk_at dksX4_solve_4 11 rfl rfl)
theorem dX4_solve_105 : decode cX4_solve 105 = .ok (.iload 6, 2) := dk_21 6 (dk_at dksX4_solve_4 12 rfl rfl)
theorem dX4_solve_107 : decode cX4_solve 107 = .ok (.aload_n 0, 1) := dk_42 (dk_at dksX4_solve_4 14 rfl rfl)
theorem dX4_solve_108 : decode cX4_solve 108 = .ok (.iload 6, 2) := dk_21 6 (dk_at dksX4_solve_4 15 rfl rfl)
theorem dX4_solve_110 : decode cX4_solve 110 = .ok (.invokevirtual 269, 3) := dk_182 1 13 (dk_at dksX4_solve_4 17 rfl rfl)
theorem dX4_solve_113 : decode cX4_solve 113 = .ok (.ifCond .eq 28, 3) := dk_153 0 28 (dk_at dksX4_solve_4 20 rfl rfl)
theorem dX4_solve_116 : decode cX4_solve 116 = .ok (.aload_n 0, 1) := dk_42 (dk_at dksX4_solve_4 23 rfl rfl)
theorem dX4_solve_117 : decode cX4_solve 117 = .ok (.iload 6, 2) := dk_21 6 (dk_at dksX4_solve_5 0 rfl rfl)
theorem dX4_solve_119 : decode cX4_solve 119 = .ok (.iload 5, 2) := dk_21 5 (dk_at dksX4_solve_5 2 rfl rfl)
theorem dX4_solve_121 : decode cX4_solve 121 = .ok (.iload_n 1, 1) := dk_27 (dk_at dksX4_solve_5 4 rfl rfl)
theorem dX4_solve_122 : decode cX4_solve 122 = .ok (.if_icmp .ne 8, 3) := dk_160 0 8 (dk_at dksX4_solve_5 5 rfl rfl)
theorem dX4_solve_125 : decode cX4_solve 125 = .ok (.iload 4, 2) := dk_21 4 (dk_at dksX4_solve_5 8 rfl rfl)
theorem dX4_solve_127 : decode cX4_solve 127 = .ok (.goto 4, 3) := dk_167 0 4 (dk_at dksX4_solve_5 10 rfl rfl)
theorem dX4_solve_130 : decode cX4_solve 130 = .ok (.iconst (-1), 1) := dk_2 (dk_at dksX4_solve_5 13 rfl rfl)
theorem dX4_solve_131 : decode cX4_solve 131 = .ok (.invokevirtual 290, 3) := dk_182 1 34 (dk_at dksX4_solve_5 14 rfl rfl)
theorem dX4_solve_134 : decode cX4_solve 134 = .ok (.ldc2_w 184, 3) := dk_20 0 184 (dk_at dksX4_solve_5 17 rfl rfl)
theorem dX4_solve_137 : decode cX4_solve 137 = .ok (.ldiv, 1) := dk_109 (dk_at dksX4_solve_5 20 rfl rfl)
theorem dX4_solve_138 : decode cX4_solve 138 = .ok (.goto 4, 3) := dk_167 0 4 (dk_at dksX4_solve_5 21 rfl rfl)
theorem dX4_solve_141 : decode cX4_solve 141 = .ok (.lconst 0, 1) := dk_9 (dk_at dksX4_solve_6 0 rfl rfl)
theorem dX4_solve_142 : decode cX4_solve 142 = .ok (.lastore, 1) := dk_80 (dk_at dksX4_solve_6 1 rfl rfl)
theorem dX4_solve_143 : decode cX4_solve 143 = .ok (.iinc 6 1, 3) := dk_132 6 1 (dk_at dksX4_solve_6 2 rfl rfl)
theorem dX4_solve_146 : decode cX4_solve 146 = .ok (.goto (-55), 3) := dk_167 255 201 (dk_at dksX4_solve_6 5 rfl rfl)
theorem dX4_solve_149 : decode cX4_solve 149 = .ok (.iinc 5 1, 3) := dk_132 5 1 (dk_at dksX4_solve_6 8 rfl rfl)
theorem dX4_solve_152 : decode cX4_solve 152 = .ok (.goto (-123), 3) := dk_167 255 133 (dk_at dksX4_solve_6 11 rfl rfl)
theorem dX4_solve_155 : decode cX4_solve 155 = .ok (.return_, 1) := dk_177 (dk_at dksX4_solve_6 14 rfl rfl)
abbrev cX4_isState : ByteArray := prog_19_method_11_code
def yX4_isState : MethodName := ⟨RX4, "isState", "(I)Z"⟩
def dkwX4_isState_2 : List UInt8 := [180, 0, 40, 5, 46, 163, 0, 7, 4, 167, 0, 4, 3, 172]
abbrev dktX4_isState_2 : List UInt8 := dkwX4_isState_2 ++ []
def dkwX4_isState_1 : List UInt8 := [163, 0, 35, 27, 4, 184, 0, 100, 42, 180, 0, 40, 4, 46, 163, 0, 21, 27, 5, 184, 0, 100, 42]
abbrev dktX4_isState_1 : List UInt8 := dkwX4_isState_1 ++ dktX4_isState_2
def dkwX4_isState_0 : List UInt8 := [27, 133, 9, 20, 0, 98, 184, 0, 88, 153, 0, 49, 27, 3, 184, 0, 100, 42, 180, 0, 40, 3, 46]
abbrev dktX4_isState_0 : List UInt8 := dkwX4_isState_0 ++ dktX4_isState_1
theorem dksX4_isState_0 : cX4_isState.data.toList.drop 0 = dktX4_isState_0 := by decide +kernel
theorem dksX4_isState_1 : cX4_isState.data.toList.drop 23 = dktX4_isState_1 := dk_seg dksX4_isState_0 23 rfl rfl
theorem dksX4_isState_2 : cX4_isState.data.toList.drop 46 = dktX4_isState_2 := dk_seg dksX4_isState_1 23 rfl rfl
theorem dX4_isState_0 : decode cX4_isState 0 = .ok (.iload_n 1, 1) := dk_27 (dk_at dksX4_isState_0 0 rfl rfl)
theorem dX4_isState_1 : decode cX4_isState 1 = .ok (.i2l, 1) := dk_133 (dk_at dksX4_isState_0 1 rfl rfl)
theorem dX4_isState_2 : decode cX4_isState 2 = .ok (.lconst 0, 1) := dk_9 (dk_at dksX4_isState_0 2 rfl rfl)
theorem dX4_isState_3 : decode cX4_isState 3 = .ok (.ldc2_w 98, 3) := dk_20 0 98 (dk_at dksX4_isState_0 3 rfl rfl)
theorem dX4_isState_6 : decode cX4_isState 6 = .ok (.invokestatic 88, 3) := dk_184 0 88 (dk_at dksX4_isState_0 6 rfl rfl)
theorem dX4_isState_9 : decode cX4_isState 9 = .ok (.ifCond .eq 49, 3) := dk_153 0 49 (dk_at dksX4_isState_0 9 rfl rfl)
theorem dX4_isState_12 : decode cX4_isState 12 = .ok (.iload_n 1, 1) := dk_27 (dk_at dksX4_isState_0 12 rfl rfl)
theorem dX4_isState_13 : decode cX4_isState 13 = .ok (.iconst 0, 1) := dk_3 (dk_at dksX4_isState_0 13 rfl rfl)
theorem dX4_isState_14 : decode cX4_isState 14 = .ok (.invokestatic 100, 3) := dk_184 0 100 (dk_at dksX4_isState_0 14 rfl rfl)
theorem dX4_isState_17 : decode cX4_isState 17 = .ok (.aload_n 0, 1) := dk_42 (dk_at dksX4_isState_0 17 rfl rfl)
theorem dX4_isState_18 : decode cX4_isState 18 = .ok (.getfield 40, 3) := dk_180 0 40 (dk_at dksX4_isState_0 18 rfl rfl)
theorem dX4_isState_21 : decode cX4_isState 21 = .ok (.iconst 0, 1) := dk_3 (dk_at dksX4_isState_0 21 rfl rfl)
theorem dX4_isState_22 : decode cX4_isState 22 = .ok (.iaload, 1) := dk_46 (dk_at dksX4_isState_0 22 rfl rfl)
theorem dX4_isState_23 : decode cX4_isState 23 = .ok (.if_icmp .gt 35, 3) := dk_163 0 35 (dk_at dksX4_isState_1 0 rfl rfl)
theorem dX4_isState_26 : decode cX4_isState 26 = .ok (.iload_n 1, 1) := dk_27 (dk_at dksX4_isState_1 3 rfl rfl)
theorem dX4_isState_27 : decode cX4_isState 27 = .ok (.iconst 1, 1) := dk_4 (dk_at dksX4_isState_1 4 rfl rfl)
theorem dX4_isState_28 : decode cX4_isState 28 = .ok (.invokestatic 100, 3) := dk_184 0 100 (dk_at dksX4_isState_1 5 rfl rfl)
theorem dX4_isState_31 : decode cX4_isState 31 = .ok (.aload_n 0, 1) := dk_42 (dk_at dksX4_isState_1 8 rfl rfl)
theorem dX4_isState_32 : decode cX4_isState 32 = .ok (.getfield 40, 3) := dk_180 0 40 (dk_at dksX4_isState_1 9 rfl rfl)
theorem dX4_isState_35 : decode cX4_isState 35 = .ok (.iconst 1, 1) := dk_4 (dk_at dksX4_isState_1 12 rfl rfl)
theorem dX4_isState_36 : decode cX4_isState 36 = .ok (.iaload, 1) := dk_46 (dk_at dksX4_isState_1 13 rfl rfl)
theorem dX4_isState_37 : decode cX4_isState 37 = .ok (.if_icmp .gt 21, 3) := dk_163 0 21 (dk_at dksX4_isState_1 14 rfl rfl)
theorem dX4_isState_40 : decode cX4_isState 40 = .ok (.iload_n 1, 1) := dk_27 (dk_at dksX4_isState_1 17 rfl rfl)
theorem dX4_isState_41 : decode cX4_isState 41 = .ok (.iconst 2, 1) := dk_5 (dk_at dksX4_isState_1 18 rfl rfl)
theorem dX4_isState_42 : decode cX4_isState 42 = .ok (.invokestatic 100, 3) := dk_184 0 100 (dk_at dksX4_isState_1 19 rfl rfl)
theorem dX4_isState_45 : decode cX4_isState 45 = .ok (.aload_n 0, 1) := dk_42 (dk_at dksX4_isState_1 22 rfl rfl)
theorem dX4_isState_46 : decode cX4_isState 46 = .ok (.getfield 40, 3) := dk_180 0 40 (dk_at dksX4_isState_2 0 rfl rfl)
theorem dX4_isState_49 : decode cX4_isState 49 = .ok (.iconst 2, 1) := dk_5 (dk_at dksX4_isState_2 3 rfl rfl)
theorem dX4_isState_50 : decode cX4_isState 50 = .ok (.iaload, 1) := dk_46 (dk_at dksX4_isState_2 4 rfl rfl)
theorem dX4_isState_51 : decode cX4_isState 51 = .ok (.if_icmp .gt 7, 3) := dk_163 0 7 (dk_at dksX4_isState_2 5 rfl rfl)
theorem dX4_isState_54 : decode cX4_isState 54 = .ok (.iconst 1, 1) := dk_4 (dk_at dksX4_isState_2 8 rfl rfl)
theorem dX4_isState_55 : decode cX4_isState 55 = .ok (.goto 4, 3) := dk_167 0 4 (dk_at dksX4_isState_2 9 rfl rfl)
theorem dX4_isState_58 : decode cX4_isState 58 = .ok (.iconst 0, 1) := dk_3 (dk_at dksX4_isState_2 12 rfl rfl)
theorem dX4_isState_59 : decode cX4_isState 59 = .ok (.ireturn, 1) := dk_172 (dk_at dksX4_isState_2 13 rfl rfl)
abbrev cX4_freeOf : ByteArray := prog_19_method_8_code
def yX4_freeOf : MethodName := ⟨RX4, "freeOf", "(II)I"⟩
def dkwX4_freeOf_1 : List UInt8 := [16, 25, 108, 172]
abbrev dktX4_freeOf_1 : List UInt8 := dkwX4_freeOf_1 ++ []
def dkwX4_freeOf_0 : List UInt8 := [27, 154, 0, 9, 26, 8, 112, 167, 0, 20, 27, 4, 160, 0, 11, 26, 8, 108, 8, 112, 167, 0, 7, 26]
abbrev dktX4_freeOf_0 : List UInt8 := dkwX4_freeOf_0 ++ dktX4_freeOf_1
theorem dksX4_freeOf_0 : cX4_freeOf.data.toList.drop 0 = dktX4_freeOf_0 := by decide +kernel
theorem dksX4_freeOf_1 : cX4_freeOf.data.toList.drop 24 = dktX4_freeOf_1 := dk_seg dksX4_freeOf_0 24 rfl rfl
theorem dX4_freeOf_0 : decode cX4_freeOf 0 = .ok (.iload_n 1, 1) := dk_27 (dk_at dksX4_freeOf_0 0 rfl rfl)
theorem dX4_freeOf_1 : decode cX4_freeOf 1 = .ok (.ifCond .ne 9, 3) := dk_154 0 9 (dk_at dksX4_freeOf_0 1 rfl rfl)
theorem dX4_freeOf_4 : decode cX4_freeOf 4 = .ok (.iload_n 0, 1) := dk_26 (dk_at dksX4_freeOf_0 4 rfl rfl)
theorem dX4_freeOf_5 : decode cX4_freeOf 5 = .ok (.iconst 5, 1) := dk_8 (dk_at dksX4_freeOf_0 5 rfl rfl)
theorem dX4_freeOf_6 : decode cX4_freeOf 6 = .ok (.irem, 1) := dk_112 (dk_at dksX4_freeOf_0 6 rfl rfl)
theorem dX4_freeOf_7 : decode cX4_freeOf 7 = .ok (.goto 20, 3) := dk_167 0 20 (dk_at dksX4_freeOf_0 7 rfl rfl)
theorem dX4_freeOf_10 : decode cX4_freeOf 10 = .ok (.iload_n 1, 1) := dk_27 (dk_at dksX4_freeOf_0 10 rfl rfl)
theorem dX4_freeOf_11 : decode cX4_freeOf 11 = .ok (.iconst 1, 1) := dk_4 (dk_at dksX4_freeOf_0 11 rfl rfl)
theorem dX4_freeOf_12 : decode cX4_freeOf 12 = .ok (.if_icmp .ne 11, 3) := dk_160 0 11 (dk_at dksX4_freeOf_0 12 rfl rfl)
theorem dX4_freeOf_15 : decode cX4_freeOf 15 = .ok (.iload_n 0, 1) := dk_26 (dk_at dksX4_freeOf_0 15 rfl rfl)
theorem dX4_freeOf_16 : decode cX4_freeOf 16 = .ok (.iconst 5, 1) := dk_8 (dk_at dksX4_freeOf_0 16 rfl rfl)
theorem dX4_freeOf_17 : decode cX4_freeOf 17 = .ok (.idiv, 1) := dk_108 (dk_at dksX4_freeOf_0 17 rfl rfl)
theorem dX4_freeOf_18 : decode cX4_freeOf 18 = .ok (.iconst 5, 1) := dk_8 (dk_at dksX4_freeOf_0 18 rfl rfl)
theorem dX4_freeOf_19 : decode cX4_freeOf 19 = .ok (.irem, 1) := dk_112 (dk_at dksX4_freeOf_0 19 rfl rfl)
theorem dX4_freeOf_20 : decode cX4_freeOf 20 = .ok (.goto 7, 3) := dk_167 0 7 (dk_at dksX4_freeOf_0 20 rfl rfl)
theorem dX4_freeOf_23 : decode cX4_freeOf 23 = .ok (.iload_n 0, 1) := dk_26 (dk_at dksX4_freeOf_0 23 rfl rfl)
theorem dX4_freeOf_24 : decode cX4_freeOf 24 = .ok (.bipush 25, 2) := dk_16 25 (dk_at dksX4_freeOf_1 0 rfl rfl)
theorem dX4_freeOf_26 : decode cX4_freeOf 26 = .ok (.idiv, 1) := dk_108 (dk_at dksX4_freeOf_1 2 rfl rfl)
theorem dX4_freeOf_27 : decode cX4_freeOf 27 = .ok (.ireturn, 1) := dk_172 (dk_at dksX4_freeOf_1 3 rfl rfl)
abbrev cX4_placed : ByteArray := prog_19_method_52_code
def yX4_placed : MethodName := ⟨RX4, "placed", "(III[J)J"⟩
def dkwX4_placed_5 : List UInt8 := [55, 5, 132, 7, 1, 167, 255, 152, 22, 5, 173]
abbrev dktX4_placed_5 : List UInt8 := dkwX4_placed_5 ++ []
def dkwX4_placed_4 : List UInt8 := [184, 1, 6, 100, 47, 97, 55, 9, 22, 5, 42, 180, 0, 51, 21, 7, 50, 4, 46, 133, 22, 9, 105, 97]
abbrev dktX4_placed_4 : List UInt8 := dkwX4_placed_4 ++ dktX4_placed_5
def dkwX4_placed_3 : List UInt8 := [167, 0, 28, 20, 1, 4, 42, 180, 0, 51, 21, 7, 50, 5, 46, 133, 105, 25, 4, 27, 21, 8]
abbrev dktX4_placed_3 : List UInt8 := dkwX4_placed_3 ++ dktX4_placed_4
def dkwX4_placed_2 : List UInt8 := [27, 182, 1, 24, 54, 8, 21, 8, 2, 160, 0, 17, 42, 21, 7, 182, 0, 250, 25, 4, 27, 47, 97]
abbrev dktX4_placed_2 : List UInt8 := dkwX4_placed_2 ++ dktX4_placed_3
def dkwX4_placed_1 : List UInt8 := [162, 0, 101, 28, 154, 0, 15, 42, 21, 7, 27, 25, 4, 182, 1, 16, 167, 0, 12, 42, 28, 29, 21, 7]
abbrev dktX4_placed_1 : List UInt8 := dkwX4_placed_1 ++ dktX4_placed_2
def dkwX4_placed_0 : List UInt8 := [16, 100, 42, 182, 0, 143, 100, 133, 25, 4, 27, 47, 105, 55, 5, 3, 54, 7, 21, 7, 42, 180, 0, 85]
abbrev dktX4_placed_0 : List UInt8 := dkwX4_placed_0 ++ dktX4_placed_1
theorem dksX4_placed_0 : cX4_placed.data.toList.drop 0 = dktX4_placed_0 := by decide +kernel
theorem dksX4_placed_1 : cX4_placed.data.toList.drop 24 = dktX4_placed_1 := dk_seg dksX4_placed_0 24 rfl rfl
theorem dksX4_placed_2 : cX4_placed.data.toList.drop 48 = dktX4_placed_2 := dk_seg dksX4_placed_1 24 rfl rfl
theorem dksX4_placed_3 : cX4_placed.data.toList.drop 71 = dktX4_placed_3 := dk_seg dksX4_placed_2 23 rfl rfl
theorem dksX4_placed_4 : cX4_placed.data.toList.drop 93 = dktX4_placed_4 := dk_seg dksX4_placed_3 22 rfl rfl
theorem dksX4_placed_5 : cX4_placed.data.toList.drop 117 = dktX4_placed_5 := dk_seg dksX4_placed_4 24 rfl rfl
theorem dX4_placed_0 : decode cX4_placed 0 = .ok (.bipush 100, 2) := dk_16 100 (dk_at dksX4_placed_0 0 rfl rfl)
theorem dX4_placed_2 : decode cX4_placed 2 = .ok (.aload_n 0, 1) := dk_42 (dk_at dksX4_placed_0 2 rfl rfl)
theorem dX4_placed_3 : decode cX4_placed 3 = .ok (.invokevirtual 143, 3) := dk_182 0 143 (dk_at dksX4_placed_0 3 rfl rfl)
theorem dX4_placed_6 : decode cX4_placed 6 = .ok (.isub, 1) := dk_100 (dk_at dksX4_placed_0 6 rfl rfl)
theorem dX4_placed_7 : decode cX4_placed 7 = .ok (.i2l, 1) := dk_133 (dk_at dksX4_placed_0 7 rfl rfl)
theorem dX4_placed_8 : decode cX4_placed 8 = .ok (.aload 4, 2) := dk_25 4 (dk_at dksX4_placed_0 8 rfl rfl)
theorem dX4_placed_10 : decode cX4_placed 10 = .ok (.iload_n 1, 1) := dk_27 (dk_at dksX4_placed_0 10 rfl rfl)
theorem dX4_placed_11 : decode cX4_placed 11 = .ok (.laload, 1) := dk_47 (dk_at dksX4_placed_0 11 rfl rfl)
theorem dX4_placed_12 : decode cX4_placed 12 = .ok (.lmul, 1) := dk_105 (dk_at dksX4_placed_0 12 rfl rfl)
theorem dX4_placed_13 : decode cX4_placed 13 = .ok (.lstore 5, 2) := dk_55 5 (dk_at dksX4_placed_0 13 rfl rfl)
theorem dX4_placed_15 : decode cX4_placed 15 = .ok (.iconst 0, 1) := dk_3 (dk_at dksX4_placed_0 15 rfl rfl)
theorem dX4_placed_16 : decode cX4_placed 16 = .ok (.istore 7, 2) := dk_54 7 (dk_at dksX4_placed_0 16 rfl rfl)
theorem dX4_placed_18 : decode cX4_placed 18 = .ok (.iload 7, 2) := dk_21 7 (dk_at dksX4_placed_0 18 rfl rfl)
theorem dX4_placed_20 : decode cX4_placed 20 = .ok (.aload_n 0, 1) := dk_42 (dk_at dksX4_placed_0 20 rfl rfl)
theorem dX4_placed_21 : decode cX4_placed 21 = .ok (.getfield 85, 3) := dk_180 0 85 (dk_at dksX4_placed_0 21 rfl rfl)
theorem dX4_placed_24 : decode cX4_placed 24 = .ok (.if_icmp .ge 101, 3) := dk_162 0 101 (dk_at dksX4_placed_1 0 rfl rfl)
theorem dX4_placed_27 : decode cX4_placed 27 = .ok (.iload_n 2, 1) := dk_28 (dk_at dksX4_placed_1 3 rfl rfl)
theorem dX4_placed_28 : decode cX4_placed 28 = .ok (.ifCond .ne 15, 3) := dk_154 0 15 (dk_at dksX4_placed_1 4 rfl rfl)
theorem dX4_placed_31 : decode cX4_placed 31 = .ok (.aload_n 0, 1) := dk_42 (dk_at dksX4_placed_1 7 rfl rfl)
theorem dX4_placed_32 : decode cX4_placed 32 = .ok (.iload 7, 2) := dk_21 7 (dk_at dksX4_placed_1 8 rfl rfl)
theorem dX4_placed_34 : decode cX4_placed 34 = .ok (.iload_n 1, 1) := dk_27 (dk_at dksX4_placed_1 10 rfl rfl)
theorem dX4_placed_35 : decode cX4_placed 35 = .ok (.aload 4, 2) := dk_25 4 (dk_at dksX4_placed_1 11 rfl rfl)
theorem dX4_placed_37 : decode cX4_placed 37 = .ok (.invokevirtual 272, 3) := dk_182 1 16 (dk_at dksX4_placed_1 13 rfl rfl)
theorem dX4_placed_40 : decode cX4_placed 40 = .ok (.goto 12, 3) := dk_167 0 12 (dk_at dksX4_placed_1 16 rfl rfl)
theorem dX4_placed_43 : decode cX4_placed 43 = .ok (.aload_n 0, 1) := dk_42 (dk_at dksX4_placed_1 19 rfl rfl)
theorem dX4_placed_44 : decode cX4_placed 44 = .ok (.iload_n 2, 1) := dk_28 (dk_at dksX4_placed_1 20 rfl rfl)
theorem dX4_placed_45 : decode cX4_placed 45 = .ok (.iload_n 3, 1) := dk_29 (dk_at dksX4_placed_1 21 rfl rfl)
theorem dX4_placed_46 : decode cX4_placed 46 = .ok (.iload 7, 2) := dk_21 7 (dk_at dksX4_placed_1 22 rfl rfl)
theorem dX4_placed_48 : decode cX4_placed 48 = .ok (.iload_n 1, 1) := dk_27 (dk_at dksX4_placed_2 0 rfl rfl)
theorem dX4_placed_49 : decode cX4_placed 49 = .ok (.invokevirtual 280, 3) := dk_182 1 24 (dk_at dksX4_placed_2 1 rfl rfl)
theorem dX4_placed_52 : decode cX4_placed 52 = .ok (.istore 8, 2) := dk_54 8 (dk_at dksX4_placed_2 4 rfl rfl)
theorem dX4_placed_54 : decode cX4_placed 54 = .ok (.iload 8, 2) := dk_21 8 (dk_at dksX4_placed_2 6 rfl rfl)
theorem dX4_placed_56 : decode cX4_placed 56 = .ok (.iconst (-1), 1) := dk_2 (dk_at dksX4_placed_2 8 rfl rfl)
theorem dX4_placed_57 : decode cX4_placed 57 = .ok (.if_icmp .ne 17, 3) := dk_160 0 17 (dk_at dksX4_placed_2 9 rfl rfl)
theorem dX4_placed_60 : decode cX4_placed 60 = .ok (.aload_n 0, 1) := dk_42 (dk_at dksX4_placed_2 12 rfl rfl)
theorem dX4_placed_61 : decode cX4_placed 61 = .ok (.iload 7, 2) := dk_21 7 (dk_at dksX4_placed_2 13 rfl rfl)
theorem dX4_placed_63 : decode cX4_placed 63 = .ok (.invokevirtual 250, 3) := dk_182 0 250 (dk_at dksX4_placed_2 15 rfl rfl)
theorem dX4_placed_66 : decode cX4_placed 66 = .ok (.aload 4, 2) := dk_25 4 (dk_at dksX4_placed_2 18 rfl rfl)
theorem dX4_placed_68 : decode cX4_placed 68 = .ok (.iload_n 1, 1) := dk_27 (dk_at dksX4_placed_2 20 rfl rfl)
theorem dX4_placed_69 : decode cX4_placed 69 = .ok (.laload, 1) := dk_47 (dk_at dksX4_placed_2 21 rfl rfl)
theorem dX4_placed_70 : decode cX4_placed 70 = .ok (.ladd, 1) := dk_97 (dk_at dksX4_placed_2 22 rfl rfl)
theorem dX4_placed_71 : decode cX4_placed 71 = .ok (.goto 28, 3) := dk_167 0 28 (dk_at dksX4_placed_3 0 rfl rfl)
theorem dX4_placed_74 : decode cX4_placed 74 = .ok (.ldc2_w 260, 3) := dk_20 1 4 (dk_at dksX4_placed_3 3 rfl rfl)
theorem dX4_placed_77 : decode cX4_placed 77 = .ok (.aload_n 0, 1) := dk_42 (dk_at dksX4_placed_3 6 rfl rfl)
theorem dX4_placed_78 : decode cX4_placed 78 = .ok (.getfield 51, 3) := dk_180 0 51 (dk_at dksX4_placed_3 7 rfl rfl)
theorem dX4_placed_81 : decode cX4_placed 81 = .ok (.iload 7, 2) := dk_21 7 (dk_at dksX4_placed_3 10 rfl rfl)
theorem dX4_placed_83 : decode cX4_placed 83 = .ok (.aaload, 1) := dk_50 (dk_at dksX4_placed_3 12 rfl rfl)
theorem dX4_placed_84 : decode cX4_placed 84 = .ok (.iconst 2, 1) := dk_5 (dk_at dksX4_placed_3 13 rfl rfl)
theorem dX4_placed_85 : decode cX4_placed 85 = .ok (.iaload, 1) := dk_46 (dk_at dksX4_placed_3 14 rfl rfl)
theorem dX4_placed_86 : decode cX4_placed 86 = .ok (.i2l, 1) := dk_133 (dk_at dksX4_placed_3 15 rfl rfl)
theorem dX4_placed_87 : decode cX4_placed 87 = .ok (.lmul, 1) := dk_105 (dk_at dksX4_placed_3 16 rfl rfl)
theorem dX4_placed_88 : decode cX4_placed 88 = .ok (.aload 4, 2) := dk_25 4 (dk_at dksX4_placed_3 17 rfl rfl)
theorem dX4_placed_90 : decode cX4_placed 90 = .ok (.iload_n 1, 1) := dk_27 (dk_at dksX4_placed_3 19 rfl rfl)
theorem dX4_placed_91 : decode cX4_placed 91 = .ok (.iload 8, 2) := dk_21 8 (dk_at dksX4_placed_3 20 rfl rfl)
theorem dX4_placed_93 : decode cX4_placed 93 = .ok (.invokestatic 262, 3) := dk_184 1 6 (dk_at dksX4_placed_4 0 rfl rfl)
theorem dX4_placed_96 : decode cX4_placed 96 = .ok (.isub, 1) := dk_100 (dk_at dksX4_placed_4 3 rfl rfl)
theorem dX4_placed_97 : decode cX4_placed 97 = .ok (.laload, 1) := dk_47 (dk_at dksX4_placed_4 4 rfl rfl)
theorem dX4_placed_98 : decode cX4_placed 98 = .ok (.ladd, 1) := dk_97 (dk_at dksX4_placed_4 5 rfl rfl)
theorem dX4_placed_99 : decode cX4_placed 99 = .ok (.lstore 9, 2) := dk_55 9 (dk_at dksX4_placed_4 6 rfl rfl)
theorem dX4_placed_101 : decode cX4_placed 101 = .ok (.lload 5, 2) := dk_22 5 (dk_at dksX4_placed_4 8 rfl rfl)
theorem dX4_placed_103 : decode cX4_placed 103 = .ok (.aload_n 0, 1) := dk_42 (dk_at dksX4_placed_4 10 rfl rfl)
theorem dX4_placed_104 : decode cX4_placed 104 = .ok (.getfield 51, 3) := dk_180 0 51 (dk_at dksX4_placed_4 11 rfl rfl)
theorem dX4_placed_107 : decode cX4_placed 107 = .ok (.iload 7, 2) := dk_21 7 (dk_at dksX4_placed_4 14 rfl rfl)
theorem dX4_placed_109 : decode cX4_placed 109 = .ok (.aaload, 1) := dk_50 (dk_at dksX4_placed_4 16 rfl rfl)
theorem dX4_placed_110 : decode cX4_placed 110 = .ok (.iconst 1, 1) := dk_4 (dk_at dksX4_placed_4 17 rfl rfl)
theorem dX4_placed_111 : decode cX4_placed 111 = .ok (.iaload, 1) := dk_46 (dk_at dksX4_placed_4 18 rfl rfl)
theorem dX4_placed_112 : decode cX4_placed 112 = .ok (.i2l, 1) := dk_133 (dk_at dksX4_placed_4 19 rfl rfl)
theorem dX4_placed_113 : decode cX4_placed 113 = .ok (.lload 9, 2) := dk_22 9 (dk_at dksX4_placed_4 20 rfl rfl)
theorem dX4_placed_115 : decode cX4_placed 115 = .ok (.lmul, 1) := dk_105 (dk_at dksX4_placed_4 22 rfl rfl)
theorem dX4_placed_116 : decode cX4_placed 116 = .ok (.ladd, 1) := dk_97 (dk_at dksX4_placed_4 23 rfl rfl)
theorem dX4_placed_117 : decode cX4_placed 117 = .ok (.lstore 5, 2) := dk_55 5 (dk_at dksX4_placed_5 0 rfl rfl)
theorem dX4_placed_119 : decode cX4_placed 119 = .ok (.iinc 7 1, 3) := dk_132 7 1 (dk_at dksX4_placed_5 2 rfl rfl)
theorem dX4_placed_122 : decode cX4_placed 122 = .ok (.goto (-104), 3) := dk_167 255 152 (dk_at dksX4_placed_5 5 rfl rfl)
theorem dX4_placed_125 : decode cX4_placed 125 = .ok (.lload 5, 2) := dk_22 5 (dk_at dksX4_placed_5 8 rfl rfl)
theorem dX4_placed_127 : decode cX4_placed 127 = .ok (.lreturn, 1) := dk_173 (dk_at dksX4_placed_5 10 rfl rfl)
abbrev cX4_comes : ByteArray := prog_19_method_6_code
def yX4_comes : MethodName := ⟨RX4, "comes", "()I"⟩
def dkwX4_comes_1 : List UInt8 := [132, 2, 1, 167, 255, 234, 27, 172]
abbrev dktX4_comes_1 : List UInt8 := dkwX4_comes_1 ++ []
def dkwX4_comes_0 : List UInt8 := [3, 60, 3, 61, 28, 42, 180, 0, 85, 162, 0, 20, 27, 42, 180, 0, 51, 28, 50, 4, 46, 96, 60]
abbrev dktX4_comes_0 : List UInt8 := dkwX4_comes_0 ++ dktX4_comes_1
theorem dksX4_comes_0 : cX4_comes.data.toList.drop 0 = dktX4_comes_0 := by decide +kernel
theorem dksX4_comes_1 : cX4_comes.data.toList.drop 23 = dktX4_comes_1 := dk_seg dksX4_comes_0 23 rfl rfl
theorem dX4_comes_0 : decode cX4_comes 0 = .ok (.iconst 0, 1) := dk_3 (dk_at dksX4_comes_0 0 rfl rfl)
theorem dX4_comes_1 : decode cX4_comes 1 = .ok (.istore_n 1, 1) := dk_60 (dk_at dksX4_comes_0 1 rfl rfl)
theorem dX4_comes_2 : decode cX4_comes 2 = .ok (.iconst 0, 1) := dk_3 (dk_at dksX4_comes_0 2 rfl rfl)
theorem dX4_comes_3 : decode cX4_comes 3 = .ok (.istore_n 2, 1) := dk_61 (dk_at dksX4_comes_0 3 rfl rfl)
theorem dX4_comes_4 : decode cX4_comes 4 = .ok (.iload_n 2, 1) := dk_28 (dk_at dksX4_comes_0 4 rfl rfl)
theorem dX4_comes_5 : decode cX4_comes 5 = .ok (.aload_n 0, 1) := dk_42 (dk_at dksX4_comes_0 5 rfl rfl)
theorem dX4_comes_6 : decode cX4_comes 6 = .ok (.getfield 85, 3) := dk_180 0 85 (dk_at dksX4_comes_0 6 rfl rfl)
theorem dX4_comes_9 : decode cX4_comes 9 = .ok (.if_icmp .ge 20, 3) := dk_162 0 20 (dk_at dksX4_comes_0 9 rfl rfl)
theorem dX4_comes_12 : decode cX4_comes 12 = .ok (.iload_n 1, 1) := dk_27 (dk_at dksX4_comes_0 12 rfl rfl)
theorem dX4_comes_13 : decode cX4_comes 13 = .ok (.aload_n 0, 1) := dk_42 (dk_at dksX4_comes_0 13 rfl rfl)
theorem dX4_comes_14 : decode cX4_comes 14 = .ok (.getfield 51, 3) := dk_180 0 51 (dk_at dksX4_comes_0 14 rfl rfl)
theorem dX4_comes_17 : decode cX4_comes 17 = .ok (.iload_n 2, 1) := dk_28 (dk_at dksX4_comes_0 17 rfl rfl)
theorem dX4_comes_18 : decode cX4_comes 18 = .ok (.aaload, 1) := dk_50 (dk_at dksX4_comes_0 18 rfl rfl)
theorem dX4_comes_19 : decode cX4_comes 19 = .ok (.iconst 1, 1) := dk_4 (dk_at dksX4_comes_0 19 rfl rfl)
theorem dX4_comes_20 : decode cX4_comes 20 = .ok (.iaload, 1) := dk_46 (dk_at dksX4_comes_0 20 rfl rfl)
theorem dX4_comes_21 : decode cX4_comes 21 = .ok (.iadd, 1) := dk_96 (dk_at dksX4_comes_0 21 rfl rfl)
theorem dX4_comes_22 : decode cX4_comes 22 = .ok (.istore_n 1, 1) := dk_60 (dk_at dksX4_comes_0 22 rfl rfl)
theorem dX4_comes_23 : decode cX4_comes 23 = .ok (.iinc 2 1, 3) := dk_132 2 1 (dk_at dksX4_comes_1 0 rfl rfl)
theorem dX4_comes_26 : decode cX4_comes 26 = .ok (.goto (-22), 3) := dk_167 255 234 (dk_at dksX4_comes_1 3 rfl rfl)
theorem dX4_comes_29 : decode cX4_comes 29 = .ok (.iload_n 1, 1) := dk_27 (dk_at dksX4_comes_1 6 rfl rfl)
theorem dX4_comes_30 : decode cX4_comes 30 = .ok (.ireturn, 1) := dk_172 (dk_at dksX4_comes_1 7 rfl rfl)
abbrev cX4_bestFor : ByteArray := prog_19_method_47_code
def yX4_bestFor : MethodName := ⟨RX4, "bestFor", "(II[J)I"⟩
def dkwX4_bestFor_3 : List UInt8 := [22, 8, 55, 5, 132, 7, 1, 167, 255, 195, 21, 4, 172]
abbrev dktX4_bestFor_3 : List UInt8 := dkwX4_bestFor_3 ++ []
def dkwX4_bestFor_2 : List UInt8 := [28, 21, 7, 184, 1, 6, 100, 47, 97, 55, 8, 22, 8, 22, 5, 148, 158, 0, 11, 21, 7, 54, 4]
abbrev dktX4_bestFor_2 : List UInt8 := dkwX4_bestFor_2 ++ dktX4_bestFor_3
def dkwX4_bestFor_1 : List UInt8 := [27, 28, 21, 7, 182, 1, 0, 153, 0, 44, 20, 1, 4, 42, 180, 0, 51, 27, 50, 5, 46, 133, 105, 45]
abbrev dktX4_bestFor_1 : List UInt8 := dkwX4_bestFor_1 ++ dktX4_bestFor_2
def dkwX4_bestFor_0 : List UInt8 := [2, 54, 4, 42, 27, 182, 0, 250, 45, 28, 47, 97, 55, 5, 3, 54, 7, 21, 7, 6, 162, 0, 61, 42]
abbrev dktX4_bestFor_0 : List UInt8 := dkwX4_bestFor_0 ++ dktX4_bestFor_1
theorem dksX4_bestFor_0 : cX4_bestFor.data.toList.drop 0 = dktX4_bestFor_0 := by decide +kernel
theorem dksX4_bestFor_1 : cX4_bestFor.data.toList.drop 24 = dktX4_bestFor_1 := dk_seg dksX4_bestFor_0 24 rfl rfl
theorem dksX4_bestFor_2 : cX4_bestFor.data.toList.drop 48 = dktX4_bestFor_2 := dk_seg dksX4_bestFor_1 24 rfl rfl
theorem dksX4_bestFor_3 : cX4_bestFor.data.toList.drop 71 = dktX4_bestFor_3 := dk_seg dksX4_bestFor_2 23 rfl rfl
theorem dX4_bestFor_0 : decode cX4_bestFor 0 = .ok (.iconst (-1), 1) := dk_2 (dk_at dksX4_bestFor_0 0 rfl rfl)
theorem dX4_bestFor_1 : decode cX4_bestFor 1 = .ok (.istore 4, 2) := dk_54 4 (dk_at dksX4_bestFor_0 1 rfl rfl)
theorem dX4_bestFor_3 : decode cX4_bestFor 3 = .ok (.aload_n 0, 1) := dk_42 (dk_at dksX4_bestFor_0 3 rfl rfl)
theorem dX4_bestFor_4 : decode cX4_bestFor 4 = .ok (.iload_n 1, 1) := dk_27 (dk_at dksX4_bestFor_0 4 rfl rfl)
theorem dX4_bestFor_5 : decode cX4_bestFor 5 = .ok (.invokevirtual 250, 3) := dk_182 0 250 (dk_at dksX4_bestFor_0 5 rfl rfl)
theorem dX4_bestFor_8 : decode cX4_bestFor 8 = .ok (.aload_n 3, 1) := dk_45 (dk_at dksX4_bestFor_0 8 rfl rfl)
theorem dX4_bestFor_9 : decode cX4_bestFor 9 = .ok (.iload_n 2, 1) := dk_28 (dk_at dksX4_bestFor_0 9 rfl rfl)
theorem dX4_bestFor_10 : decode cX4_bestFor 10 = .ok (.laload, 1) := dk_47 (dk_at dksX4_bestFor_0 10 rfl rfl)
theorem dX4_bestFor_11 : decode cX4_bestFor 11 = .ok (.ladd, 1) := dk_97 (dk_at dksX4_bestFor_0 11 rfl rfl)
theorem dX4_bestFor_12 : decode cX4_bestFor 12 = .ok (.lstore 5, 2) := dk_55 5 (dk_at dksX4_bestFor_0 12 rfl rfl)
theorem dX4_bestFor_14 : decode cX4_bestFor 14 = .ok (.iconst 0, 1) := dk_3 (dk_at dksX4_bestFor_0 14 rfl rfl)
theorem dX4_bestFor_15 : decode cX4_bestFor 15 = .ok (.istore 7, 2) := dk_54 7 (dk_at dksX4_bestFor_0 15 rfl rfl)
theorem dX4_bestFor_17 : decode cX4_bestFor 17 = .ok (.iload 7, 2) := dk_21 7 (dk_at dksX4_bestFor_0 17 rfl rfl)
theorem dX4_bestFor_19 : decode cX4_bestFor 19 = .ok (.iconst 3, 1) := dk_6 (dk_at dksX4_bestFor_0 19 rfl rfl)
theorem dX4_bestFor_20 : decode cX4_bestFor 20 = .ok (.if_icmp .ge 61, 3) := dk_162 0 61 (dk_at dksX4_bestFor_0 20 rfl rfl)
theorem dX4_bestFor_23 : decode cX4_bestFor 23 = .ok (.aload_n 0, 1) := dk_42 (dk_at dksX4_bestFor_0 23 rfl rfl)
theorem dX4_bestFor_24 : decode cX4_bestFor 24 = .ok (.iload_n 1, 1) := dk_27 (dk_at dksX4_bestFor_1 0 rfl rfl)
theorem dX4_bestFor_25 : decode cX4_bestFor 25 = .ok (.iload_n 2, 1) := dk_28 (dk_at dksX4_bestFor_1 1 rfl rfl)
theorem dX4_bestFor_26 : decode cX4_bestFor 26 = .ok (.iload 7, 2) := dk_21 7 (dk_at dksX4_bestFor_1 2 rfl rfl)
theorem dX4_bestFor_28 : decode cX4_bestFor 28 = .ok (.invokevirtual 256, 3) := dk_182 1 0 (dk_at dksX4_bestFor_1 4 rfl rfl)
theorem dX4_bestFor_31 : decode cX4_bestFor 31 = .ok (.ifCond .eq 44, 3) := dk_153 0 44 (dk_at dksX4_bestFor_1 7 rfl rfl)
theorem dX4_bestFor_34 : decode cX4_bestFor 34 = .ok (.ldc2_w 260, 3) := dk_20 1 4 (dk_at dksX4_bestFor_1 10 rfl rfl)
theorem dX4_bestFor_37 : decode cX4_bestFor 37 = .ok (.aload_n 0, 1) := dk_42 (dk_at dksX4_bestFor_1 13 rfl rfl)
theorem dX4_bestFor_38 : decode cX4_bestFor 38 = .ok (.getfield 51, 3) := dk_180 0 51 (dk_at dksX4_bestFor_1 14 rfl rfl)
theorem dX4_bestFor_41 : decode cX4_bestFor 41 = .ok (.iload_n 1, 1) := dk_27 (dk_at dksX4_bestFor_1 17 rfl rfl)
theorem dX4_bestFor_42 : decode cX4_bestFor 42 = .ok (.aaload, 1) := dk_50 (dk_at dksX4_bestFor_1 18 rfl rfl)
theorem dX4_bestFor_43 : decode cX4_bestFor 43 = .ok (.iconst 2, 1) := dk_5 (dk_at dksX4_bestFor_1 19 rfl rfl)
theorem dX4_bestFor_44 : decode cX4_bestFor 44 = .ok (.iaload, 1) := dk_46 (dk_at dksX4_bestFor_1 20 rfl rfl)
theorem dX4_bestFor_45 : decode cX4_bestFor 45 = .ok (.i2l, 1) := dk_133 (dk_at dksX4_bestFor_1 21 rfl rfl)
theorem dX4_bestFor_46 : decode cX4_bestFor 46 = .ok (.lmul, 1) := dk_105 (dk_at dksX4_bestFor_1 22 rfl rfl)
theorem dX4_bestFor_47 : decode cX4_bestFor 47 = .ok (.aload_n 3, 1) := dk_45 (dk_at dksX4_bestFor_1 23 rfl rfl)
theorem dX4_bestFor_48 : decode cX4_bestFor 48 = .ok (.iload_n 2, 1) := dk_28 (dk_at dksX4_bestFor_2 0 rfl rfl)
theorem dX4_bestFor_49 : decode cX4_bestFor 49 = .ok (.iload 7, 2) := dk_21 7 (dk_at dksX4_bestFor_2 1 rfl rfl)
theorem dX4_bestFor_51 : decode cX4_bestFor 51 = .ok (.invokestatic 262, 3) := dk_184 1 6 (dk_at dksX4_bestFor_2 3 rfl rfl)
theorem dX4_bestFor_54 : decode cX4_bestFor 54 = .ok (.isub, 1) := dk_100 (dk_at dksX4_bestFor_2 6 rfl rfl)
theorem dX4_bestFor_55 : decode cX4_bestFor 55 = .ok (.laload, 1) := dk_47 (dk_at dksX4_bestFor_2 7 rfl rfl)
theorem dX4_bestFor_56 : decode cX4_bestFor 56 = .ok (.ladd, 1) := dk_97 (dk_at dksX4_bestFor_2 8 rfl rfl)
theorem dX4_bestFor_57 : decode cX4_bestFor 57 = .ok (.lstore 8, 2) := dk_55 8 (dk_at dksX4_bestFor_2 9 rfl rfl)
theorem dX4_bestFor_59 : decode cX4_bestFor 59 = .ok (.lload 8, 2) := dk_22 8 (dk_at dksX4_bestFor_2 11 rfl rfl)
theorem dX4_bestFor_61 : decode cX4_bestFor 61 = .ok (.lload 5, 2) := dk_22 5 (dk_at dksX4_bestFor_2 13 rfl rfl)
theorem dX4_bestFor_63 : decode cX4_bestFor 63 = .ok (.lcmp, 1) := dk_148 (dk_at dksX4_bestFor_2 15 rfl rfl)
theorem dX4_bestFor_64 : decode cX4_bestFor 64 = .ok (.ifCond .le 11, 3) := dk_158 0 11 (dk_at dksX4_bestFor_2 16 rfl rfl)
theorem dX4_bestFor_67 : decode cX4_bestFor 67 = .ok (.iload 7, 2) := dk_21 7 (dk_at dksX4_bestFor_2 19 rfl rfl)
theorem dX4_bestFor_69 : decode cX4_bestFor 69 = .ok (.istore 4, 2) := dk_54 4 (dk_at dksX4_bestFor_2 21 rfl rfl)
theorem dX4_bestFor_71 : decode cX4_bestFor 71 = .ok (.lload 8, 2) := dk_22 8 (dk_at dksX4_bestFor_3 0 rfl rfl)
theorem dX4_bestFor_73 : decode cX4_bestFor 73 = .ok (.lstore 5, 2) := dk_55 5 (dk_at dksX4_bestFor_3 2 rfl rfl)
theorem dX4_bestFor_75 : decode cX4_bestFor 75 = .ok (.iinc 7 1, 3) := dk_132 7 1 (dk_at dksX4_bestFor_3 4 rfl rfl)
theorem dX4_bestFor_78 : decode cX4_bestFor 78 = .ok (.goto (-61), 3) := dk_167 255 195 (dk_at dksX4_bestFor_3 7 rfl rfl)
theorem dX4_bestFor_81 : decode cX4_bestFor 81 = .ok (.iload 4, 2) := dk_21 4 (dk_at dksX4_bestFor_3 10 rfl rfl)
theorem dX4_bestFor_83 : decode cX4_bestFor 83 = .ok (.ireturn, 1) := dk_172 (dk_at dksX4_bestFor_3 12 rfl rfl)
abbrev cX4_lostOf : ByteArray := prog_19_method_44_code
def yX4_lostOf : MethodName := ⟨RX4, "lostOf", "(I)J"⟩
def dkwX4_lostOf_1 : List UInt8 := [104, 16, 10, 42, 180, 0, 54, 3, 46, 100, 42, 180, 0, 51, 27, 50, 6, 46, 104, 100, 133, 105, 173]
abbrev dktX4_lostOf_1 : List UInt8 := dkwX4_lostOf_1 ++ []
def dkwX4_lostOf_0 : List UInt8 := [20, 0, 184, 42, 180, 0, 54, 3, 46, 42, 180, 0, 51, 27, 50, 5, 46, 42, 180, 0, 54, 4, 46, 100]
abbrev dktX4_lostOf_0 : List UInt8 := dkwX4_lostOf_0 ++ dktX4_lostOf_1
theorem dksX4_lostOf_0 : cX4_lostOf.data.toList.drop 0 = dktX4_lostOf_0 := by decide +kernel
theorem dksX4_lostOf_1 : cX4_lostOf.data.toList.drop 24 = dktX4_lostOf_1 := dk_seg dksX4_lostOf_0 24 rfl rfl
theorem dX4_lostOf_0 : decode cX4_lostOf 0 = .ok (.ldc2_w 184, 3) := dk_20 0 184 (dk_at dksX4_lostOf_0 0 rfl rfl)
theorem dX4_lostOf_3 : decode cX4_lostOf 3 = .ok (.aload_n 0, 1) := dk_42 (dk_at dksX4_lostOf_0 3 rfl rfl)
theorem dX4_lostOf_4 : decode cX4_lostOf 4 = .ok (.getfield 54, 3) := dk_180 0 54 (dk_at dksX4_lostOf_0 4 rfl rfl)
theorem dX4_lostOf_7 : decode cX4_lostOf 7 = .ok (.iconst 0, 1) := dk_3 (dk_at dksX4_lostOf_0 7 rfl rfl)
theorem dX4_lostOf_8 : decode cX4_lostOf 8 = .ok (.iaload, 1) := dk_46 (dk_at dksX4_lostOf_0 8 rfl rfl)
theorem dX4_lostOf_9 : decode cX4_lostOf 9 = .ok (.aload_n 0, 1) := dk_42 (dk_at dksX4_lostOf_0 9 rfl rfl)
theorem dX4_lostOf_10 : decode cX4_lostOf 10 = .ok (.getfield 51, 3) := dk_180 0 51 (dk_at dksX4_lostOf_0 10 rfl rfl)
theorem dX4_lostOf_13 : decode cX4_lostOf 13 = .ok (.iload_n 1, 1) := dk_27 (dk_at dksX4_lostOf_0 13 rfl rfl)
theorem dX4_lostOf_14 : decode cX4_lostOf 14 = .ok (.aaload, 1) := dk_50 (dk_at dksX4_lostOf_0 14 rfl rfl)
theorem dX4_lostOf_15 : decode cX4_lostOf 15 = .ok (.iconst 2, 1) := dk_5 (dk_at dksX4_lostOf_0 15 rfl rfl)
theorem dX4_lostOf_16 : decode cX4_lostOf 16 = .ok (.iaload, 1) := dk_46 (dk_at dksX4_lostOf_0 16 rfl rfl)
theorem dX4_lostOf_17 : decode cX4_lostOf 17 = .ok (.aload_n 0, 1) := dk_42 (dk_at dksX4_lostOf_0 17 rfl rfl)
theorem dX4_lostOf_18 : decode cX4_lostOf 18 = .ok (.getfield 54, 3) := dk_180 0 54 (dk_at dksX4_lostOf_0 18 rfl rfl)
theorem dX4_lostOf_21 : decode cX4_lostOf 21 = .ok (.iconst 1, 1) := dk_4 (dk_at dksX4_lostOf_0 21 rfl rfl)
theorem dX4_lostOf_22 : decode cX4_lostOf 22 = .ok (.iaload, 1) := dk_46 (dk_at dksX4_lostOf_0 22 rfl rfl)
theorem dX4_lostOf_23 : decode cX4_lostOf 23 = .ok (.isub, 1) := dk_100 (dk_at dksX4_lostOf_0 23 rfl rfl)
theorem dX4_lostOf_24 : decode cX4_lostOf 24 = .ok (.imul, 1) := dk_104 (dk_at dksX4_lostOf_1 0 rfl rfl)
theorem dX4_lostOf_25 : decode cX4_lostOf 25 = .ok (.bipush 10, 2) := dk_16 10 (dk_at dksX4_lostOf_1 1 rfl rfl)
theorem dX4_lostOf_27 : decode cX4_lostOf 27 = .ok (.aload_n 0, 1) := dk_42 (dk_at dksX4_lostOf_1 3 rfl rfl)
theorem dX4_lostOf_28 : decode cX4_lostOf 28 = .ok (.getfield 54, 3) := dk_180 0 54 (dk_at dksX4_lostOf_1 4 rfl rfl)
theorem dX4_lostOf_31 : decode cX4_lostOf 31 = .ok (.iconst 0, 1) := dk_3 (dk_at dksX4_lostOf_1 7 rfl rfl)
theorem dX4_lostOf_32 : decode cX4_lostOf 32 = .ok (.iaload, 1) := dk_46 (dk_at dksX4_lostOf_1 8 rfl rfl)
theorem dX4_lostOf_33 : decode cX4_lostOf 33 = .ok (.isub, 1) := dk_100 (dk_at dksX4_lostOf_1 9 rfl rfl)
theorem dX4_lostOf_34 : decode cX4_lostOf 34 = .ok (.aload_n 0, 1) := dk_42 (dk_at dksX4_lostOf_1 10 rfl rfl)
theorem dX4_lostOf_35 : decode cX4_lostOf 35 = .ok (.getfield 51, 3) := dk_180 0 51 (dk_at dksX4_lostOf_1 11 rfl rfl)
theorem dX4_lostOf_38 : decode cX4_lostOf 38 = .ok (.iload_n 1, 1) := dk_27 (dk_at dksX4_lostOf_1 14 rfl rfl)
theorem dX4_lostOf_39 : decode cX4_lostOf 39 = .ok (.aaload, 1) := dk_50 (dk_at dksX4_lostOf_1 15 rfl rfl)
theorem dX4_lostOf_40 : decode cX4_lostOf 40 = .ok (.iconst 3, 1) := dk_6 (dk_at dksX4_lostOf_1 16 rfl rfl)
theorem dX4_lostOf_41 : decode cX4_lostOf 41 = .ok (.iaload, 1) := dk_46 (dk_at dksX4_lostOf_1 17 rfl rfl)
theorem dX4_lostOf_42 : decode cX4_lostOf 42 = .ok (.imul, 1) := dk_104 (dk_at dksX4_lostOf_1 18 rfl rfl)
theorem dX4_lostOf_43 : decode cX4_lostOf 43 = .ok (.isub, 1) := dk_100 (dk_at dksX4_lostOf_1 19 rfl rfl)
theorem dX4_lostOf_44 : decode cX4_lostOf 44 = .ok (.i2l, 1) := dk_133 (dk_at dksX4_lostOf_1 20 rfl rfl)
theorem dX4_lostOf_45 : decode cX4_lostOf 45 = .ok (.lmul, 1) := dk_105 (dk_at dksX4_lostOf_1 21 rfl rfl)
theorem dX4_lostOf_46 : decode cX4_lostOf 46 = .ok (.lreturn, 1) := dk_173 (dk_at dksX4_lostOf_1 22 rfl rfl)
abbrev cX4_mayGet : ByteArray := prog_19_method_46_code
def yX4_mayGet : MethodName := ⟨RX4, "mayGet", "(III)Z"⟩
def dkwX4_mayGet_1 : List UInt8 := [3, 172]
abbrev dktX4_mayGet_1 : List UInt8 := dkwX4_mayGet_1 ++ []
def dkwX4_mayGet_0 : List UInt8 := [29, 42, 180, 0, 51, 27, 50, 3, 46, 161, 0, 15, 28, 29, 184, 0, 100, 158, 0, 7, 4, 167, 0, 4]
abbrev dktX4_mayGet_0 : List UInt8 := dkwX4_mayGet_0 ++ dktX4_mayGet_1
theorem dksX4_mayGet_0 : cX4_mayGet.data.toList.drop 0 = dktX4_mayGet_0 := by decide +kernel
theorem dksX4_mayGet_1 : cX4_mayGet.data.toList.drop 24 = dktX4_mayGet_1 := dk_seg dksX4_mayGet_0 24 rfl rfl
theorem dX4_mayGet_0 : decode cX4_mayGet 0 = .ok (.iload_n 3, 1) := dk_29 (dk_at dksX4_mayGet_0 0 rfl rfl)
theorem dX4_mayGet_1 : decode cX4_mayGet 1 = .ok (.aload_n 0, 1) := dk_42 (dk_at dksX4_mayGet_0 1 rfl rfl)
theorem dX4_mayGet_2 : decode cX4_mayGet 2 = .ok (.getfield 51, 3) := dk_180 0 51 (dk_at dksX4_mayGet_0 2 rfl rfl)
theorem dX4_mayGet_5 : decode cX4_mayGet 5 = .ok (.iload_n 1, 1) := dk_27 (dk_at dksX4_mayGet_0 5 rfl rfl)
theorem dX4_mayGet_6 : decode cX4_mayGet 6 = .ok (.aaload, 1) := dk_50 (dk_at dksX4_mayGet_0 6 rfl rfl)
theorem dX4_mayGet_7 : decode cX4_mayGet 7 = .ok (.iconst 0, 1) := dk_3 (dk_at dksX4_mayGet_0 7 rfl rfl)
theorem dX4_mayGet_8 : decode cX4_mayGet 8 = .ok (.iaload, 1) := dk_46 (dk_at dksX4_mayGet_0 8 rfl rfl)
theorem dX4_mayGet_9 : decode cX4_mayGet 9 = .ok (.if_icmp .lt 15, 3) := dk_161 0 15 (dk_at dksX4_mayGet_0 9 rfl rfl)
theorem dX4_mayGet_12 : decode cX4_mayGet 12 = .ok (.iload_n 2, 1) := dk_28 (dk_at dksX4_mayGet_0 12 rfl rfl)
theorem dX4_mayGet_13 : decode cX4_mayGet 13 = .ok (.iload_n 3, 1) := dk_29 (dk_at dksX4_mayGet_0 13 rfl rfl)
theorem dX4_mayGet_14 : decode cX4_mayGet 14 = .ok (.invokestatic 100, 3) := dk_184 0 100 (dk_at dksX4_mayGet_0 14 rfl rfl)
theorem dX4_mayGet_17 : decode cX4_mayGet 17 = .ok (.ifCond .le 7, 3) := dk_158 0 7 (dk_at dksX4_mayGet_0 17 rfl rfl)
theorem dX4_mayGet_20 : decode cX4_mayGet 20 = .ok (.iconst 1, 1) := dk_4 (dk_at dksX4_mayGet_0 20 rfl rfl)
theorem dX4_mayGet_21 : decode cX4_mayGet 21 = .ok (.goto 4, 3) := dk_167 0 4 (dk_at dksX4_mayGet_0 21 rfl rfl)
theorem dX4_mayGet_24 : decode cX4_mayGet 24 = .ok (.iconst 0, 1) := dk_3 (dk_at dksX4_mayGet_1 0 rfl rfl)
theorem dX4_mayGet_25 : decode cX4_mayGet 25 = .ok (.ireturn, 1) := dk_172 (dk_at dksX4_mayGet_1 1 rfl rfl)
abbrev cX4_oneOf : ByteArray := prog_19_method_9_code
def yX4_oneOf : MethodName := ⟨RX4, "oneOf", "(I)I"⟩
def dkwX4_oneOf_0 : List UInt8 := [26, 154, 0, 7, 4, 167, 0, 14, 26, 4, 160, 0, 7, 8, 167, 0, 5, 16, 25, 172]
abbrev dktX4_oneOf_0 : List UInt8 := dkwX4_oneOf_0 ++ []
theorem dksX4_oneOf_0 : cX4_oneOf.data.toList.drop 0 = dktX4_oneOf_0 := by decide +kernel
theorem dX4_oneOf_0 : decode cX4_oneOf 0 = .ok (.iload_n 0, 1) := dk_26 (dk_at dksX4_oneOf_0 0 rfl rfl)
theorem dX4_oneOf_1 : decode cX4_oneOf 1 = .ok (.ifCond .ne 7, 3) := dk_154 0 7 (dk_at dksX4_oneOf_0 1 rfl rfl)
theorem dX4_oneOf_4 : decode cX4_oneOf 4 = .ok (.iconst 1, 1) := dk_4 (dk_at dksX4_oneOf_0 4 rfl rfl)
theorem dX4_oneOf_5 : decode cX4_oneOf 5 = .ok (.goto 14, 3) := dk_167 0 14 (dk_at dksX4_oneOf_0 5 rfl rfl)
theorem dX4_oneOf_8 : decode cX4_oneOf 8 = .ok (.iload_n 0, 1) := dk_26 (dk_at dksX4_oneOf_0 8 rfl rfl)
theorem dX4_oneOf_9 : decode cX4_oneOf 9 = .ok (.iconst 1, 1) := dk_4 (dk_at dksX4_oneOf_0 9 rfl rfl)
theorem dX4_oneOf_10 : decode cX4_oneOf 10 = .ok (.if_icmp .ne 7, 3) := dk_160 0 7 (dk_at dksX4_oneOf_0 10 rfl rfl)
theorem dX4_oneOf_13 : decode cX4_oneOf 13 = .ok (.iconst 5, 1) := dk_8 (dk_at dksX4_oneOf_0 13 rfl rfl)
theorem dX4_oneOf_14 : decode cX4_oneOf 14 = .ok (.goto 5, 3) := dk_167 0 5 (dk_at dksX4_oneOf_0 14 rfl rfl)
theorem dX4_oneOf_17 : decode cX4_oneOf 17 = .ok (.bipush 25, 2) := dk_16 25 (dk_at dksX4_oneOf_0 17 rfl rfl)
theorem dX4_oneOf_19 : decode cX4_oneOf 19 = .ok (.ireturn, 1) := dk_172 (dk_at dksX4_oneOf_0 19 rfl rfl)
abbrev cX4_sizeBy : ByteArray := prog_19_method_48_code
def yX4_sizeBy : MethodName := ⟨RX4, "sizeBy", "(IIII)I"⟩
def dkwX4_sizeBy_8 : List UInt8 := [160, 0, 8, 21, 7, 167, 0, 5, 21, 6, 54, 6, 132, 7, 1, 167, 255, 110, 21, 6, 172]
abbrev dktX4_sizeBy_8 : List UInt8 := dkwX4_sizeBy_8 ++ []
def dkwX4_sizeBy_7 : List UInt8 := [21, 6, 184, 0, 100, 161, 0, 8, 21, 7, 167, 0, 5, 21, 6, 54, 6, 167, 0, 18, 21, 6, 2]
abbrev dktX4_sizeBy_7 : List UInt8 := dkwX4_sizeBy_7 ++ dktX4_sizeBy_8
def dkwX4_sizeBy_6 : List UInt8 := [21, 6, 54, 6, 167, 0, 55, 21, 7, 54, 6, 167, 0, 48, 21, 6, 2, 159, 0, 15, 21, 8, 21, 4]
abbrev dktX4_sizeBy_6 : List UInt8 := dkwX4_sizeBy_6 ++ dktX4_sizeBy_7
def dkwX4_sizeBy_5 : List UInt8 := [21, 6, 2, 160, 0, 21, 21, 7, 21, 5, 159, 0, 9, 21, 8, 28, 164, 0, 8, 21, 7, 167, 0, 5]
abbrev dktX4_sizeBy_5 : List UInt8 := dkwX4_sizeBy_5 ++ dktX4_sizeBy_6
def dkwX4_sizeBy_4 : List UInt8 := [170, 0, 0, 0, 97, 0, 0, 0, 2, 0, 0, 0, 5, 0, 0, 0, 29, 0, 0, 0, 97, 0, 0, 0, 60, 0, 0, 0, 67]
abbrev dktX4_sizeBy_4 : List UInt8 := dkwX4_sizeBy_4 ++ dktX4_sizeBy_5
def dkwX4_sizeBy_3 : List UInt8 := [167, 0, 125, 21, 4, 21, 7, 184, 0, 100, 54, 8, 27]
abbrev dktX4_sizeBy_3 : List UInt8 := dkwX4_sizeBy_3 ++ dktX4_sizeBy_4
def dkwX4_sizeBy_2 : List UInt8 := [21, 5, 54, 7, 21, 7, 6, 162, 0, 146, 42, 29, 21, 4, 21, 7, 182, 1, 0, 154, 0, 6]
abbrev dktX4_sizeBy_2 : List UInt8 := dkwX4_sizeBy_2 ++ dktX4_sizeBy_3
def dkwX4_sizeBy_1 : List UInt8 := [46, 172, 27, 6, 160, 0, 17, 42, 180, 0, 51, 29, 50, 5, 46, 28, 162, 0, 5, 2, 172, 2, 54, 6]
abbrev dktX4_sizeBy_1 : List UInt8 := dkwX4_sizeBy_1 ++ dktX4_sizeBy_2
def dkwX4_sizeBy_0 : List UInt8 := [42, 180, 0, 51, 29, 50, 3, 46, 54, 5, 27, 16, 6, 160, 0, 13, 42, 180, 0, 67, 29, 50, 21, 4]
abbrev dktX4_sizeBy_0 : List UInt8 := dkwX4_sizeBy_0 ++ dktX4_sizeBy_1
theorem dksX4_sizeBy_0 : cX4_sizeBy.data.toList.drop 0 = dktX4_sizeBy_0 := by decide +kernel
theorem dksX4_sizeBy_1 : cX4_sizeBy.data.toList.drop 24 = dktX4_sizeBy_1 := dk_seg dksX4_sizeBy_0 24 rfl rfl
theorem dksX4_sizeBy_2 : cX4_sizeBy.data.toList.drop 48 = dktX4_sizeBy_2 := dk_seg dksX4_sizeBy_1 24 rfl rfl
theorem dksX4_sizeBy_3 : cX4_sizeBy.data.toList.drop 70 = dktX4_sizeBy_3 := dk_seg dksX4_sizeBy_2 22 rfl rfl
theorem dksX4_sizeBy_4 : cX4_sizeBy.data.toList.drop 83 = dktX4_sizeBy_4 := dk_seg dksX4_sizeBy_3 13 rfl rfl
theorem dksX4_sizeBy_5 : cX4_sizeBy.data.toList.drop 112 = dktX4_sizeBy_5 := dk_seg dksX4_sizeBy_4 29 rfl rfl
theorem dksX4_sizeBy_6 : cX4_sizeBy.data.toList.drop 136 = dktX4_sizeBy_6 := dk_seg dksX4_sizeBy_5 24 rfl rfl
theorem dksX4_sizeBy_7 : cX4_sizeBy.data.toList.drop 160 = dktX4_sizeBy_7 := dk_seg dksX4_sizeBy_6 24 rfl rfl
theorem dksX4_sizeBy_8 : cX4_sizeBy.data.toList.drop 183 = dktX4_sizeBy_8 := dk_seg dksX4_sizeBy_7 23 rfl rfl
theorem dX4_sizeBy_0 : decode cX4_sizeBy 0 = .ok (.aload_n 0, 1) := dk_42 (dk_at dksX4_sizeBy_0 0 rfl rfl)
theorem dX4_sizeBy_1 : decode cX4_sizeBy 1 = .ok (.getfield 51, 3) := dk_180 0 51 (dk_at dksX4_sizeBy_0 1 rfl rfl)
theorem dX4_sizeBy_4 : decode cX4_sizeBy 4 = .ok (.iload_n 3, 1) := dk_29 (dk_at dksX4_sizeBy_0 4 rfl rfl)
theorem dX4_sizeBy_5 : decode cX4_sizeBy 5 = .ok (.aaload, 1) := dk_50 (dk_at dksX4_sizeBy_0 5 rfl rfl)
theorem dX4_sizeBy_6 : decode cX4_sizeBy 6 = .ok (.iconst 0, 1) := dk_3 (dk_at dksX4_sizeBy_0 6 rfl rfl)
theorem dX4_sizeBy_7 : decode cX4_sizeBy 7 = .ok (.iaload, 1) := dk_46 (dk_at dksX4_sizeBy_0 7 rfl rfl)
theorem dX4_sizeBy_8 : decode cX4_sizeBy 8 = .ok (.istore 5, 2) := dk_54 5 (dk_at dksX4_sizeBy_0 8 rfl rfl)
theorem dX4_sizeBy_10 : decode cX4_sizeBy 10 = .ok (.iload_n 1, 1) := dk_27 (dk_at dksX4_sizeBy_0 10 rfl rfl)
theorem dX4_sizeBy_11 : decode cX4_sizeBy 11 = .ok (.bipush 6, 2) := dk_16 6 (dk_at dksX4_sizeBy_0 11 rfl rfl)
theorem dX4_sizeBy_13 : decode cX4_sizeBy 13 = .ok (.if_icmp .ne 13, 3) := dk_160 0 13 (dk_at dksX4_sizeBy_0 13 rfl rfl)
theorem dX4_sizeBy_16 : decode cX4_sizeBy 16 = .ok (.aload_n 0, 1) := dk_42 (dk_at dksX4_sizeBy_0 16 rfl rfl)
theorem dX4_sizeBy_17 : decode cX4_sizeBy 17 = .ok (.getfield 67, 3) := dk_180 0 67 (dk_at dksX4_sizeBy_0 17 rfl rfl)
theorem dX4_sizeBy_20 : decode cX4_sizeBy 20 = .ok (.iload_n 3, 1) := dk_29 (dk_at dksX4_sizeBy_0 20 rfl rfl)
theorem dX4_sizeBy_21 : decode cX4_sizeBy 21 = .ok (.aaload, 1) := dk_50 (dk_at dksX4_sizeBy_0 21 rfl rfl)
theorem dX4_sizeBy_22 : decode cX4_sizeBy 22 = .ok (.iload 4, 2) := dk_21 4 (dk_at dksX4_sizeBy_0 22 rfl rfl)
theorem dX4_sizeBy_24 : decode cX4_sizeBy 24 = .ok (.iaload, 1) := dk_46 (dk_at dksX4_sizeBy_1 0 rfl rfl)
theorem dX4_sizeBy_25 : decode cX4_sizeBy 25 = .ok (.ireturn, 1) := dk_172 (dk_at dksX4_sizeBy_1 1 rfl rfl)
theorem dX4_sizeBy_26 : decode cX4_sizeBy 26 = .ok (.iload_n 1, 1) := dk_27 (dk_at dksX4_sizeBy_1 2 rfl rfl)
theorem dX4_sizeBy_27 : decode cX4_sizeBy 27 = .ok (.iconst 3, 1) := dk_6 (dk_at dksX4_sizeBy_1 3 rfl rfl)
theorem dX4_sizeBy_28 : decode cX4_sizeBy 28 = .ok (.if_icmp .ne 17, 3) := dk_160 0 17 (dk_at dksX4_sizeBy_1 4 rfl rfl)
theorem dX4_sizeBy_31 : decode cX4_sizeBy 31 = .ok (.aload_n 0, 1) := dk_42 (dk_at dksX4_sizeBy_1 7 rfl rfl)
theorem dX4_sizeBy_32 : decode cX4_sizeBy 32 = .ok (.getfield 51, 3) := dk_180 0 51 (dk_at dksX4_sizeBy_1 8 rfl rfl)
theorem dX4_sizeBy_35 : decode cX4_sizeBy 35 = .ok (.iload_n 3, 1) := dk_29 (dk_at dksX4_sizeBy_1 11 rfl rfl)
theorem dX4_sizeBy_36 : decode cX4_sizeBy 36 = .ok (.aaload, 1) := dk_50 (dk_at dksX4_sizeBy_1 12 rfl rfl)
theorem dX4_sizeBy_37 : decode cX4_sizeBy 37 = .ok (.iconst 2, 1) := dk_5 (dk_at dksX4_sizeBy_1 13 rfl rfl)
theorem dX4_sizeBy_38 : decode cX4_sizeBy 38 = .ok (.iaload, 1) := dk_46 (dk_at dksX4_sizeBy_1 14 rfl rfl)
theorem dX4_sizeBy_39 : decode cX4_sizeBy 39 = .ok (.iload_n 2, 1) := dk_28 (dk_at dksX4_sizeBy_1 15 rfl rfl)
theorem dX4_sizeBy_40 : decode cX4_sizeBy 40 = .ok (.if_icmp .ge 5, 3) := dk_162 0 5 (dk_at dksX4_sizeBy_1 16 rfl rfl)
theorem dX4_sizeBy_43 : decode cX4_sizeBy 43 = .ok (.iconst (-1), 1) := dk_2 (dk_at dksX4_sizeBy_1 19 rfl rfl)
theorem dX4_sizeBy_44 : decode cX4_sizeBy 44 = .ok (.ireturn, 1) := dk_172 (dk_at dksX4_sizeBy_1 20 rfl rfl)
theorem dX4_sizeBy_45 : decode cX4_sizeBy 45 = .ok (.iconst (-1), 1) := dk_2 (dk_at dksX4_sizeBy_1 21 rfl rfl)
theorem dX4_sizeBy_46 : decode cX4_sizeBy 46 = .ok (.istore 6, 2) := dk_54 6 (dk_at dksX4_sizeBy_1 22 rfl rfl)
theorem dX4_sizeBy_48 : decode cX4_sizeBy 48 = .ok (.iload 5, 2) := dk_21 5 (dk_at dksX4_sizeBy_2 0 rfl rfl)
theorem dX4_sizeBy_50 : decode cX4_sizeBy 50 = .ok (.istore 7, 2) := dk_54 7 (dk_at dksX4_sizeBy_2 2 rfl rfl)
theorem dX4_sizeBy_52 : decode cX4_sizeBy 52 = .ok (.iload 7, 2) := dk_21 7 (dk_at dksX4_sizeBy_2 4 rfl rfl)
theorem dX4_sizeBy_54 : decode cX4_sizeBy 54 = .ok (.iconst 3, 1) := dk_6 (dk_at dksX4_sizeBy_2 6 rfl rfl)
theorem dX4_sizeBy_55 : decode cX4_sizeBy 55 = .ok (.if_icmp .ge 146, 3) := dk_162 0 146 (dk_at dksX4_sizeBy_2 7 rfl rfl)
theorem dX4_sizeBy_58 : decode cX4_sizeBy 58 = .ok (.aload_n 0, 1) := dk_42 (dk_at dksX4_sizeBy_2 10 rfl rfl)
theorem dX4_sizeBy_59 : decode cX4_sizeBy 59 = .ok (.iload_n 3, 1) := dk_29 (dk_at dksX4_sizeBy_2 11 rfl rfl)
theorem dX4_sizeBy_60 : decode cX4_sizeBy 60 = .ok (.iload 4, 2) := dk_21 4 (dk_at dksX4_sizeBy_2 12 rfl rfl)
theorem dX4_sizeBy_62 : decode cX4_sizeBy 62 = .ok (.iload 7, 2) := dk_21 7 (dk_at dksX4_sizeBy_2 14 rfl rfl)
theorem dX4_sizeBy_64 : decode cX4_sizeBy 64 = .ok (.invokevirtual 256, 3) := dk_182 1 0 (dk_at dksX4_sizeBy_2 16 rfl rfl)
theorem dX4_sizeBy_67 : decode cX4_sizeBy 67 = .ok (.ifCond .ne 6, 3) := dk_154 0 6 (dk_at dksX4_sizeBy_2 19 rfl rfl)
theorem dX4_sizeBy_70 : decode cX4_sizeBy 70 = .ok (.goto 125, 3) := dk_167 0 125 (dk_at dksX4_sizeBy_3 0 rfl rfl)
theorem dX4_sizeBy_73 : decode cX4_sizeBy 73 = .ok (.iload 4, 2) := dk_21 4 (dk_at dksX4_sizeBy_3 3 rfl rfl)
theorem dX4_sizeBy_75 : decode cX4_sizeBy 75 = .ok (.iload 7, 2) := dk_21 7 (dk_at dksX4_sizeBy_3 5 rfl rfl)
theorem dX4_sizeBy_77 : decode cX4_sizeBy 77 = .ok (.invokestatic 100, 3) := dk_184 0 100 (dk_at dksX4_sizeBy_3 7 rfl rfl)
theorem dX4_sizeBy_80 : decode cX4_sizeBy 80 = .ok (.istore 8, 2) := dk_54 8 (dk_at dksX4_sizeBy_3 10 rfl rfl)
theorem dX4_sizeBy_82 : decode cX4_sizeBy 82 = .ok (.iload_n 1, 1) := dk_27 (dk_at dksX4_sizeBy_3 12 rfl rfl)
theorem dX4_sizeBy_83 : decode cX4_sizeBy 83 = .ok (.tableswitch 97 2 5 #[29, 97, 60, 67], 29) := by decide +kernel
theorem dX4_sizeBy_112 : decode cX4_sizeBy 112 = .ok (.iload 6, 2) := dk_21 6 (dk_at dksX4_sizeBy_5 0 rfl rfl)
theorem dX4_sizeBy_114 : decode cX4_sizeBy 114 = .ok (.iconst (-1), 1) := dk_2 (dk_at dksX4_sizeBy_5 2 rfl rfl)
theorem dX4_sizeBy_115 : decode cX4_sizeBy 115 = .ok (.if_icmp .ne 21, 3) := dk_160 0 21 (dk_at dksX4_sizeBy_5 3 rfl rfl)
theorem dX4_sizeBy_118 : decode cX4_sizeBy 118 = .ok (.iload 7, 2) := dk_21 7 (dk_at dksX4_sizeBy_5 6 rfl rfl)
theorem dX4_sizeBy_120 : decode cX4_sizeBy 120 = .ok (.iload 5, 2) := dk_21 5 (dk_at dksX4_sizeBy_5 8 rfl rfl)
theorem dX4_sizeBy_122 : decode cX4_sizeBy 122 = .ok (.if_icmp .eq 9, 3) := dk_159 0 9 (dk_at dksX4_sizeBy_5 10 rfl rfl)
theorem dX4_sizeBy_125 : decode cX4_sizeBy 125 = .ok (.iload 8, 2) := dk_21 8 (dk_at dksX4_sizeBy_5 13 rfl rfl)
theorem dX4_sizeBy_127 : decode cX4_sizeBy 127 = .ok (.iload_n 2, 1) := dk_28 (dk_at dksX4_sizeBy_5 15 rfl rfl)
theorem dX4_sizeBy_128 : decode cX4_sizeBy 128 = .ok (.if_icmp .le 8, 3) := dk_164 0 8 (dk_at dksX4_sizeBy_5 16 rfl rfl)
theorem dX4_sizeBy_131 : decode cX4_sizeBy 131 = .ok (.iload 7, 2) := dk_21 7 (dk_at dksX4_sizeBy_5 19 rfl rfl)
theorem dX4_sizeBy_133 : decode cX4_sizeBy 133 = .ok (.goto 5, 3) := dk_167 0 5 (dk_at dksX4_sizeBy_5 21 rfl rfl)
theorem dX4_sizeBy_136 : decode cX4_sizeBy 136 = .ok (.iload 6, 2) := dk_21 6 (dk_at dksX4_sizeBy_6 0 rfl rfl)
theorem dX4_sizeBy_138 : decode cX4_sizeBy 138 = .ok (.istore 6, 2) := dk_54 6 (dk_at dksX4_sizeBy_6 2 rfl rfl)
theorem dX4_sizeBy_140 : decode cX4_sizeBy 140 = .ok (.goto 55, 3) := dk_167 0 55 (dk_at dksX4_sizeBy_6 4 rfl rfl)
theorem dX4_sizeBy_143 : decode cX4_sizeBy 143 = .ok (.iload 7, 2) := dk_21 7 (dk_at dksX4_sizeBy_6 7 rfl rfl)
theorem dX4_sizeBy_145 : decode cX4_sizeBy 145 = .ok (.istore 6, 2) := dk_54 6 (dk_at dksX4_sizeBy_6 9 rfl rfl)
theorem dX4_sizeBy_147 : decode cX4_sizeBy 147 = .ok (.goto 48, 3) := dk_167 0 48 (dk_at dksX4_sizeBy_6 11 rfl rfl)
theorem dX4_sizeBy_150 : decode cX4_sizeBy 150 = .ok (.iload 6, 2) := dk_21 6 (dk_at dksX4_sizeBy_6 14 rfl rfl)
theorem dX4_sizeBy_152 : decode cX4_sizeBy 152 = .ok (.iconst (-1), 1) := dk_2 (dk_at dksX4_sizeBy_6 16 rfl rfl)
theorem dX4_sizeBy_153 : decode cX4_sizeBy 153 = .ok (.if_icmp .eq 15, 3) := dk_159 0 15 (dk_at dksX4_sizeBy_6 17 rfl rfl)
theorem dX4_sizeBy_156 : decode cX4_sizeBy 156 = .ok (.iload 8, 2) := dk_21 8 (dk_at dksX4_sizeBy_6 20 rfl rfl)
theorem dX4_sizeBy_158 : decode cX4_sizeBy 158 = .ok (.iload 4, 2) := dk_21 4 (dk_at dksX4_sizeBy_6 22 rfl rfl)
theorem dX4_sizeBy_160 : decode cX4_sizeBy 160 = .ok (.iload 6, 2) := dk_21 6 (dk_at dksX4_sizeBy_7 0 rfl rfl)
theorem dX4_sizeBy_162 : decode cX4_sizeBy 162 = .ok (.invokestatic 100, 3) := dk_184 0 100 (dk_at dksX4_sizeBy_7 2 rfl rfl)
theorem dX4_sizeBy_165 : decode cX4_sizeBy 165 = .ok (.if_icmp .lt 8, 3) := dk_161 0 8 (dk_at dksX4_sizeBy_7 5 rfl rfl)
theorem dX4_sizeBy_168 : decode cX4_sizeBy 168 = .ok (.iload 7, 2) := dk_21 7 (dk_at dksX4_sizeBy_7 8 rfl rfl)
theorem dX4_sizeBy_170 : decode cX4_sizeBy 170 = .ok (.goto 5, 3) := dk_167 0 5 (dk_at dksX4_sizeBy_7 10 rfl rfl)
theorem dX4_sizeBy_173 : decode cX4_sizeBy 173 = .ok (.iload 6, 2) := dk_21 6 (dk_at dksX4_sizeBy_7 13 rfl rfl)
theorem dX4_sizeBy_175 : decode cX4_sizeBy 175 = .ok (.istore 6, 2) := dk_54 6 (dk_at dksX4_sizeBy_7 15 rfl rfl)
theorem dX4_sizeBy_177 : decode cX4_sizeBy 177 = .ok (.goto 18, 3) := dk_167 0 18 (dk_at dksX4_sizeBy_7 17 rfl rfl)
theorem dX4_sizeBy_180 : decode cX4_sizeBy 180 = .ok (.iload 6, 2) := dk_21 6 (dk_at dksX4_sizeBy_7 20 rfl rfl)
theorem dX4_sizeBy_182 : decode cX4_sizeBy 182 = .ok (.iconst (-1), 1) := dk_2 (dk_at dksX4_sizeBy_7 22 rfl rfl)
theorem dX4_sizeBy_183 : decode cX4_sizeBy 183 = .ok (.if_icmp .ne 8, 3) := dk_160 0 8 (dk_at dksX4_sizeBy_8 0 rfl rfl)
theorem dX4_sizeBy_186 : decode cX4_sizeBy 186 = .ok (.iload 7, 2) := dk_21 7 (dk_at dksX4_sizeBy_8 3 rfl rfl)
theorem dX4_sizeBy_188 : decode cX4_sizeBy 188 = .ok (.goto 5, 3) := dk_167 0 5 (dk_at dksX4_sizeBy_8 5 rfl rfl)
theorem dX4_sizeBy_191 : decode cX4_sizeBy 191 = .ok (.iload 6, 2) := dk_21 6 (dk_at dksX4_sizeBy_8 8 rfl rfl)
theorem dX4_sizeBy_193 : decode cX4_sizeBy 193 = .ok (.istore 6, 2) := dk_54 6 (dk_at dksX4_sizeBy_8 10 rfl rfl)
theorem dX4_sizeBy_195 : decode cX4_sizeBy 195 = .ok (.iinc 7 1, 3) := dk_132 7 1 (dk_at dksX4_sizeBy_8 12 rfl rfl)
theorem dX4_sizeBy_198 : decode cX4_sizeBy 198 = .ok (.goto (-146), 3) := dk_167 255 110 (dk_at dksX4_sizeBy_8 15 rfl rfl)
theorem dX4_sizeBy_201 : decode cX4_sizeBy 201 = .ok (.iload 6, 2) := dk_21 6 (dk_at dksX4_sizeBy_8 18 rfl rfl)
theorem dX4_sizeBy_203 : decode cX4_sizeBy 203 = .ok (.ireturn, 1) := dk_172 (dk_at dksX4_sizeBy_8 20 rfl rfl)
abbrev cX4_fetched : ByteArray := prog_19_method_54_code
def yX4_fetched : MethodName := ⟨RX4, "fetched", "(II)J"⟩
def dkwX4_fetched_8 : List UInt8 := [167, 255, 73, 33, 173]
abbrev dktX4_fetched_8 : List UInt8 := dkwX4_fetched_8 ++ []
def dkwX4_fetched_7 : List UInt8 := [9, 148, 154, 0, 7, 9, 167, 0, 13, 22, 6, 42, 180, 0, 73, 21, 8, 47, 105, 97, 66, 132, 5, 1]
abbrev dktX4_fetched_7 : List UInt8 := dkwX4_fetched_7 ++ dktX4_fetched_8
def dkwX4_fetched_6 : List UInt8 := [153, 0, 11, 21, 9, 184, 1, 6, 167, 0, 4, 3, 96, 54, 8, 132, 9, 1, 167, 255, 119, 33, 22, 6]
abbrev dktX4_fetched_6 : List UInt8 := dkwX4_fetched_6 ++ dktX4_fetched_7
def dkwX4_fetched_5 : List UInt8 := [153, 0, 9, 21, 10, 133, 167, 0, 9, 16, 10, 21, 10, 100, 133, 105, 55, 6, 21, 8, 21, 11]
abbrev dktX4_fetched_5 : List UInt8 := dkwX4_fetched_5 ++ dktX4_fetched_6
def dkwX4_fetched_4 : List UInt8 := [54, 10, 21, 5, 21, 9, 122, 4, 126, 153, 0, 7, 4, 167, 0, 4, 3, 54, 11, 22, 6, 21, 11]
abbrev dktX4_fetched_4 : List UInt8 := dkwX4_fetched_4 ++ dktX4_fetched_5
def dkwX4_fetched_3 : List UInt8 := [54, 10, 27, 21, 9, 184, 0, 100, 42, 180, 0, 40, 21, 9, 46, 160, 0, 7, 3, 167, 0, 5, 21, 10]
abbrev dktX4_fetched_3 : List UInt8 := dkwX4_fetched_3 ++ dktX4_fetched_4
def dkwX4_fetched_2 : List UInt8 := [16, 10, 167, 0, 22, 42, 180, 0, 46, 21, 9, 46, 6, 96, 167, 0, 10, 42, 180, 0, 46, 21, 9, 46]
abbrev dktX4_fetched_2 : List UInt8 := dkwX4_fetched_2 ++ dktX4_fetched_3
def dkwX4_fetched_1 : List UInt8 := [162, 0, 137, 21, 9, 28, 160, 0, 34, 42, 180, 0, 46, 21, 9, 46, 6, 96, 16, 10, 164, 0, 8]
abbrev dktX4_fetched_1 : List UInt8 := dkwX4_fetched_1 ++ dktX4_fetched_2
def dkwX4_fetched_0 : List UInt8 := [9, 66, 3, 54, 5, 21, 5, 16, 8, 162, 0, 182, 10, 55, 6, 27, 54, 8, 3, 54, 9, 21, 9, 6]
abbrev dktX4_fetched_0 : List UInt8 := dkwX4_fetched_0 ++ dktX4_fetched_1
theorem dksX4_fetched_0 : cX4_fetched.data.toList.drop 0 = dktX4_fetched_0 := by decide +kernel
theorem dksX4_fetched_1 : cX4_fetched.data.toList.drop 24 = dktX4_fetched_1 := dk_seg dksX4_fetched_0 24 rfl rfl
theorem dksX4_fetched_2 : cX4_fetched.data.toList.drop 47 = dktX4_fetched_2 := dk_seg dksX4_fetched_1 23 rfl rfl
theorem dksX4_fetched_3 : cX4_fetched.data.toList.drop 71 = dktX4_fetched_3 := dk_seg dksX4_fetched_2 24 rfl rfl
theorem dksX4_fetched_4 : cX4_fetched.data.toList.drop 95 = dktX4_fetched_4 := dk_seg dksX4_fetched_3 24 rfl rfl
theorem dksX4_fetched_5 : cX4_fetched.data.toList.drop 118 = dktX4_fetched_5 := dk_seg dksX4_fetched_4 23 rfl rfl
theorem dksX4_fetched_6 : cX4_fetched.data.toList.drop 140 = dktX4_fetched_6 := dk_seg dksX4_fetched_5 22 rfl rfl
theorem dksX4_fetched_7 : cX4_fetched.data.toList.drop 164 = dktX4_fetched_7 := dk_seg dksX4_fetched_6 24 rfl rfl
theorem dksX4_fetched_8 : cX4_fetched.data.toList.drop 188 = dktX4_fetched_8 := dk_seg dksX4_fetched_7 24 rfl rfl
theorem dX4_fetched_0 : decode cX4_fetched 0 = .ok (.lconst 0, 1) := dk_9 (dk_at dksX4_fetched_0 0 rfl rfl)
theorem dX4_fetched_1 : decode cX4_fetched 1 = .ok (.lstore_n 3, 1) := dk_66 (dk_at dksX4_fetched_0 1 rfl rfl)
theorem dX4_fetched_2 : decode cX4_fetched 2 = .ok (.iconst 0, 1) := dk_3 (dk_at dksX4_fetched_0 2 rfl rfl)
theorem dX4_fetched_3 : decode cX4_fetched 3 = .ok (.istore 5, 2) := dk_54 5 (dk_at dksX4_fetched_0 3 rfl rfl)
theorem dX4_fetched_5 : decode cX4_fetched 5 = .ok (.iload 5, 2) := dk_21 5 (dk_at dksX4_fetched_0 5 rfl rfl)
theorem dX4_fetched_7 : decode cX4_fetched 7 = .ok (.bipush 8, 2) := dk_16 8 (dk_at dksX4_fetched_0 7 rfl rfl)
theorem dX4_fetched_9 : decode cX4_fetched 9 = .ok (.if_icmp .ge 182, 3) := dk_162 0 182 (dk_at dksX4_fetched_0 9 rfl rfl)
theorem dX4_fetched_12 : decode cX4_fetched 12 = .ok (.lconst 1, 1) := dk_10 (dk_at dksX4_fetched_0 12 rfl rfl)
theorem dX4_fetched_13 : decode cX4_fetched 13 = .ok (.lstore 6, 2) := dk_55 6 (dk_at dksX4_fetched_0 13 rfl rfl)
theorem dX4_fetched_15 : decode cX4_fetched 15 = .ok (.iload_n 1, 1) := dk_27 (dk_at dksX4_fetched_0 15 rfl rfl)
theorem dX4_fetched_16 : decode cX4_fetched 16 = .ok (.istore 8, 2) := dk_54 8 (dk_at dksX4_fetched_0 16 rfl rfl)
theorem dX4_fetched_18 : decode cX4_fetched 18 = .ok (.iconst 0, 1) := dk_3 (dk_at dksX4_fetched_0 18 rfl rfl)
theorem dX4_fetched_19 : decode cX4_fetched 19 = .ok (.istore 9, 2) := dk_54 9 (dk_at dksX4_fetched_0 19 rfl rfl)
theorem dX4_fetched_21 : decode cX4_fetched 21 = .ok (.iload 9, 2) := dk_21 9 (dk_at dksX4_fetched_0 21 rfl rfl)
theorem dX4_fetched_23 : decode cX4_fetched 23 = .ok (.iconst 3, 1) := dk_6 (dk_at dksX4_fetched_0 23 rfl rfl)
theorem dX4_fetched_24 : decode cX4_fetched 24 = .ok (.if_icmp .ge 137, 3) := dk_162 0 137 (dk_at dksX4_fetched_1 0 rfl rfl)
theorem dX4_fetched_27 : decode cX4_fetched 27 = .ok (.iload 9, 2) := dk_21 9 (dk_at dksX4_fetched_1 3 rfl rfl)
theorem dX4_fetched_29 : decode cX4_fetched 29 = .ok (.iload_n 2, 1) := dk_28 (dk_at dksX4_fetched_1 5 rfl rfl)
theorem dX4_fetched_30 : decode cX4_fetched 30 = .ok (.if_icmp .ne 34, 3) := dk_160 0 34 (dk_at dksX4_fetched_1 6 rfl rfl)
theorem dX4_fetched_33 : decode cX4_fetched 33 = .ok (.aload_n 0, 1) := dk_42 (dk_at dksX4_fetched_1 9 rfl rfl)
theorem dX4_fetched_34 : decode cX4_fetched 34 = .ok (.getfield 46, 3) := dk_180 0 46 (dk_at dksX4_fetched_1 10 rfl rfl)
theorem dX4_fetched_37 : decode cX4_fetched 37 = .ok (.iload 9, 2) := dk_21 9 (dk_at dksX4_fetched_1 13 rfl rfl)
theorem dX4_fetched_39 : decode cX4_fetched 39 = .ok (.iaload, 1) := dk_46 (dk_at dksX4_fetched_1 15 rfl rfl)
theorem dX4_fetched_40 : decode cX4_fetched 40 = .ok (.iconst 3, 1) := dk_6 (dk_at dksX4_fetched_1 16 rfl rfl)
theorem dX4_fetched_41 : decode cX4_fetched 41 = .ok (.iadd, 1) := dk_96 (dk_at dksX4_fetched_1 17 rfl rfl)
theorem dX4_fetched_42 : decode cX4_fetched 42 = .ok (.bipush 10, 2) := dk_16 10 (dk_at dksX4_fetched_1 18 rfl rfl)
theorem dX4_fetched_44 : decode cX4_fetched 44 = .ok (.if_icmp .le 8, 3) := dk_164 0 8 (dk_at dksX4_fetched_1 20 rfl rfl)
theorem dX4_fetched_47 : decode cX4_fetched 47 = .ok (.bipush 10, 2) := dk_16 10 (dk_at dksX4_fetched_2 0 rfl rfl)
theorem dX4_fetched_49 : decode cX4_fetched 49 = .ok (.goto 22, 3) := dk_167 0 22 (dk_at dksX4_fetched_2 2 rfl rfl)
theorem dX4_fetched_52 : decode cX4_fetched 52 = .ok (.aload_n 0, 1) := dk_42 (dk_at dksX4_fetched_2 5 rfl rfl)
theorem dX4_fetched_53 : decode cX4_fetched 53 = .ok (.getfield 46, 3) := dk_180 0 46 (dk_at dksX4_fetched_2 6 rfl rfl)
theorem dX4_fetched_56 : decode cX4_fetched 56 = .ok (.iload 9, 2) := dk_21 9 (dk_at dksX4_fetched_2 9 rfl rfl)
theorem dX4_fetched_58 : decode cX4_fetched 58 = .ok (.iaload, 1) := dk_46 (dk_at dksX4_fetched_2 11 rfl rfl)
theorem dX4_fetched_59 : decode cX4_fetched 59 = .ok (.iconst 3, 1) := dk_6 (dk_at dksX4_fetched_2 12 rfl rfl)
theorem dX4_fetched_60 : decode cX4_fetched 60 = .ok (.iadd, 1) := dk_96 (dk_at dksX4_fetched_2 13 rfl rfl)
theorem dX4_fetched_61 : decode cX4_fetched 61 = .ok (.goto 10, 3) := dk_167 0 10 (dk_at dksX4_fetched_2 14 rfl rfl)
theorem dX4_fetched_64 : decode cX4_fetched 64 = .ok (.aload_n 0, 1) := dk_42 (dk_at dksX4_fetched_2 17 rfl rfl)
theorem dX4_fetched_65 : decode cX4_fetched 65 = .ok (.getfield 46, 3) := dk_180 0 46 (dk_at dksX4_fetched_2 18 rfl rfl)
theorem dX4_fetched_68 : decode cX4_fetched 68 = .ok (.iload 9, 2) := dk_21 9 (dk_at dksX4_fetched_2 21 rfl rfl)
theorem dX4_fetched_70 : decode cX4_fetched 70 = .ok (.iaload, 1) := dk_46 (dk_at dksX4_fetched_2 23 rfl rfl)
theorem dX4_fetched_71 : decode cX4_fetched 71 = .ok (.istore 10, 2) := dk_54 10 (dk_at dksX4_fetched_3 0 rfl rfl)
theorem dX4_fetched_73 : decode cX4_fetched 73 = .ok (.iload_n 1, 1) := dk_27 (dk_at dksX4_fetched_3 2 rfl rfl)
theorem dX4_fetched_74 : decode cX4_fetched 74 = .ok (.iload 9, 2) := dk_21 9 (dk_at dksX4_fetched_3 3 rfl rfl)
theorem dX4_fetched_76 : decode cX4_fetched 76 = .ok (.invokestatic 100, 3) := dk_184 0 100 (dk_at dksX4_fetched_3 5 rfl rfl)
theorem dX4_fetched_79 : decode cX4_fetched 79 = .ok (.aload_n 0, 1) := dk_42 (dk_at dksX4_fetched_3 8 rfl rfl)
theorem dX4_fetched_80 : decode cX4_fetched 80 = .ok (.getfield 40, 3) := dk_180 0 40 (dk_at dksX4_fetched_3 9 rfl rfl)
theorem dX4_fetched_83 : decode cX4_fetched 83 = .ok (.iload 9, 2) := dk_21 9 (dk_at dksX4_fetched_3 12 rfl rfl)
theorem dX4_fetched_85 : decode cX4_fetched 85 = .ok (.iaload, 1) := dk_46 (dk_at dksX4_fetched_3 14 rfl rfl)
theorem dX4_fetched_86 : decode cX4_fetched 86 = .ok (.if_icmp .ne 7, 3) := dk_160 0 7 (dk_at dksX4_fetched_3 15 rfl rfl)
theorem dX4_fetched_89 : decode cX4_fetched 89 = .ok (.iconst 0, 1) := dk_3 (dk_at dksX4_fetched_3 18 rfl rfl)
theorem dX4_fetched_90 : decode cX4_fetched 90 = .ok (.goto 5, 3) := dk_167 0 5 (dk_at dksX4_fetched_3 19 rfl rfl)
theorem dX4_fetched_93 : decode cX4_fetched 93 = .ok (.iload 10, 2) := dk_21 10 (dk_at dksX4_fetched_3 22 rfl rfl)
theorem dX4_fetched_95 : decode cX4_fetched 95 = .ok (.istore 10, 2) := dk_54 10 (dk_at dksX4_fetched_4 0 rfl rfl)
theorem dX4_fetched_97 : decode cX4_fetched 97 = .ok (.iload 5, 2) := dk_21 5 (dk_at dksX4_fetched_4 2 rfl rfl)
theorem dX4_fetched_99 : decode cX4_fetched 99 = .ok (.iload 9, 2) := dk_21 9 (dk_at dksX4_fetched_4 4 rfl rfl)
theorem dX4_fetched_101 : decode cX4_fetched 101 = .ok (.ishr, 1) := dk_122 (dk_at dksX4_fetched_4 6 rfl rfl)
theorem dX4_fetched_102 : decode cX4_fetched 102 = .ok (.iconst 1, 1) := dk_4 (dk_at dksX4_fetched_4 7 rfl rfl)
theorem dX4_fetched_103 : decode cX4_fetched 103 = .ok (.iand, 1) := dk_126 (dk_at dksX4_fetched_4 8 rfl rfl)
theorem dX4_fetched_104 : decode cX4_fetched 104 = .ok (.ifCond .eq 7, 3) := dk_153 0 7 (dk_at dksX4_fetched_4 9 rfl rfl)
theorem dX4_fetched_107 : decode cX4_fetched 107 = .ok (.iconst 1, 1) := dk_4 (dk_at dksX4_fetched_4 12 rfl rfl)
theorem dX4_fetched_108 : decode cX4_fetched 108 = .ok (.goto 4, 3) := dk_167 0 4 (dk_at dksX4_fetched_4 13 rfl rfl)
theorem dX4_fetched_111 : decode cX4_fetched 111 = .ok (.iconst 0, 1) := dk_3 (dk_at dksX4_fetched_4 16 rfl rfl)
theorem dX4_fetched_112 : decode cX4_fetched 112 = .ok (.istore 11, 2) := dk_54 11 (dk_at dksX4_fetched_4 17 rfl rfl)
theorem dX4_fetched_114 : decode cX4_fetched 114 = .ok (.lload 6, 2) := dk_22 6 (dk_at dksX4_fetched_4 19 rfl rfl)
theorem dX4_fetched_116 : decode cX4_fetched 116 = .ok (.iload 11, 2) := dk_21 11 (dk_at dksX4_fetched_4 21 rfl rfl)
theorem dX4_fetched_118 : decode cX4_fetched 118 = .ok (.ifCond .eq 9, 3) := dk_153 0 9 (dk_at dksX4_fetched_5 0 rfl rfl)
theorem dX4_fetched_121 : decode cX4_fetched 121 = .ok (.iload 10, 2) := dk_21 10 (dk_at dksX4_fetched_5 3 rfl rfl)
theorem dX4_fetched_123 : decode cX4_fetched 123 = .ok (.i2l, 1) := dk_133 (dk_at dksX4_fetched_5 5 rfl rfl)
theorem dX4_fetched_124 : decode cX4_fetched 124 = .ok (.goto 9, 3) := dk_167 0 9 (dk_at dksX4_fetched_5 6 rfl rfl)
theorem dX4_fetched_127 : decode cX4_fetched 127 = .ok (.bipush 10, 2) := dk_16 10 (dk_at dksX4_fetched_5 9 rfl rfl)
theorem dX4_fetched_129 : decode cX4_fetched 129 = .ok (.iload 10, 2) := dk_21 10 (dk_at dksX4_fetched_5 11 rfl rfl)
theorem dX4_fetched_131 : decode cX4_fetched 131 = .ok (.isub, 1) := dk_100 (dk_at dksX4_fetched_5 13 rfl rfl)
theorem dX4_fetched_132 : decode cX4_fetched 132 = .ok (.i2l, 1) := dk_133 (dk_at dksX4_fetched_5 14 rfl rfl)
theorem dX4_fetched_133 : decode cX4_fetched 133 = .ok (.lmul, 1) := dk_105 (dk_at dksX4_fetched_5 15 rfl rfl)
theorem dX4_fetched_134 : decode cX4_fetched 134 = .ok (.lstore 6, 2) := dk_55 6 (dk_at dksX4_fetched_5 16 rfl rfl)
theorem dX4_fetched_136 : decode cX4_fetched 136 = .ok (.iload 8, 2) := dk_21 8 (dk_at dksX4_fetched_5 18 rfl rfl)
theorem dX4_fetched_138 : decode cX4_fetched 138 = .ok (.iload 11, 2) := dk_21 11 (dk_at dksX4_fetched_5 20 rfl rfl)
theorem dX4_fetched_140 : decode cX4_fetched 140 = .ok (.ifCond .eq 11, 3) := dk_153 0 11 (dk_at dksX4_fetched_6 0 rfl rfl)
theorem dX4_fetched_143 : decode cX4_fetched 143 = .ok (.iload 9, 2) := dk_21 9 (dk_at dksX4_fetched_6 3 rfl rfl)
theorem dX4_fetched_145 : decode cX4_fetched 145 = .ok (.invokestatic 262, 3) := dk_184 1 6 (dk_at dksX4_fetched_6 5 rfl rfl)
theorem dX4_fetched_148 : decode cX4_fetched 148 = .ok (.goto 4, 3) := dk_167 0 4 (dk_at dksX4_fetched_6 8 rfl rfl)
theorem dX4_fetched_151 : decode cX4_fetched 151 = .ok (.iconst 0, 1) := dk_3 (dk_at dksX4_fetched_6 11 rfl rfl)
theorem dX4_fetched_152 : decode cX4_fetched 152 = .ok (.iadd, 1) := dk_96 (dk_at dksX4_fetched_6 12 rfl rfl)
theorem dX4_fetched_153 : decode cX4_fetched 153 = .ok (.istore 8, 2) := dk_54 8 (dk_at dksX4_fetched_6 13 rfl rfl)
theorem dX4_fetched_155 : decode cX4_fetched 155 = .ok (.iinc 9 1, 3) := dk_132 9 1 (dk_at dksX4_fetched_6 15 rfl rfl)
theorem dX4_fetched_158 : decode cX4_fetched 158 = .ok (.goto (-137), 3) := dk_167 255 119 (dk_at dksX4_fetched_6 18 rfl rfl)
theorem dX4_fetched_161 : decode cX4_fetched 161 = .ok (.lload_n 3, 1) := dk_33 (dk_at dksX4_fetched_6 21 rfl rfl)
theorem dX4_fetched_162 : decode cX4_fetched 162 = .ok (.lload 6, 2) := dk_22 6 (dk_at dksX4_fetched_6 22 rfl rfl)
theorem dX4_fetched_164 : decode cX4_fetched 164 = .ok (.lconst 0, 1) := dk_9 (dk_at dksX4_fetched_7 0 rfl rfl)
theorem dX4_fetched_165 : decode cX4_fetched 165 = .ok (.lcmp, 1) := dk_148 (dk_at dksX4_fetched_7 1 rfl rfl)
theorem dX4_fetched_166 : decode cX4_fetched 166 = .ok (.ifCond .ne 7, 3) := dk_154 0 7 (dk_at dksX4_fetched_7 2 rfl rfl)
theorem dX4_fetched_169 : decode cX4_fetched 169 = .ok (.lconst 0, 1) := dk_9 (dk_at dksX4_fetched_7 5 rfl rfl)
theorem dX4_fetched_170 : decode cX4_fetched 170 = .ok (.goto 13, 3) := dk_167 0 13 (dk_at dksX4_fetched_7 6 rfl rfl)
theorem dX4_fetched_173 : decode cX4_fetched 173 = .ok (.lload 6, 2) := dk_22 6 (dk_at dksX4_fetched_7 9 rfl rfl)
theorem dX4_fetched_175 : decode cX4_fetched 175 = .ok (.aload_n 0, 1) := dk_42 (dk_at dksX4_fetched_7 11 rfl rfl)
theorem dX4_fetched_176 : decode cX4_fetched 176 = .ok (.getfield 73, 3) := dk_180 0 73 (dk_at dksX4_fetched_7 12 rfl rfl)
theorem dX4_fetched_179 : decode cX4_fetched 179 = .ok (.iload 8, 2) := dk_21 8 (dk_at dksX4_fetched_7 15 rfl rfl)
theorem dX4_fetched_181 : decode cX4_fetched 181 = .ok (.laload, 1) := dk_47 (dk_at dksX4_fetched_7 17 rfl rfl)
theorem dX4_fetched_182 : decode cX4_fetched 182 = .ok (.lmul, 1) := dk_105 (dk_at dksX4_fetched_7 18 rfl rfl)
theorem dX4_fetched_183 : decode cX4_fetched 183 = .ok (.ladd, 1) := dk_97 (dk_at dksX4_fetched_7 19 rfl rfl)
theorem dX4_fetched_184 : decode cX4_fetched 184 = .ok (.lstore_n 3, 1) := dk_66 (dk_at dksX4_fetched_7 20 rfl rfl)
theorem dX4_fetched_185 : decode cX4_fetched 185 = .ok (.iinc 5 1, 3) := dk_132 5 1 (dk_at dksX4_fetched_7 21 rfl rfl)
theorem dX4_fetched_188 : decode cX4_fetched 188 = .ok (.goto (-183), 3) := dk_167 255 73 (dk_at dksX4_fetched_8 0 rfl rfl)
theorem dX4_fetched_191 : decode cX4_fetched 191 = .ok (.lload_n 3, 1) := dk_33 (dk_at dksX4_fetched_8 3 rfl rfl)
theorem dX4_fetched_192 : decode cX4_fetched 192 = .ok (.lreturn, 1) := dk_173 (dk_at dksX4_fetched_8 4 rfl rfl)
abbrev cX4_size : ByteArray := prog_19_method_22_code
def yX4_size : MethodName := ⟨RX4, "size", "(III)I"⟩
def dkwX4_size_5 : List UInt8 := [58, 4, 25, 4, 27, 46, 54, 5, 25, 4, 27, 29, 79, 21, 5, 172]
abbrev dktX4_size_5 : List UInt8 := dkwX4_size_5 ++ []
def dkwX4_size_4 : List UInt8 := [42, 180, 0, 40, 167, 0, 19, 28, 4, 160, 0, 10, 42, 180, 0, 43, 167, 0, 7, 42, 180, 0, 46]
abbrev dktX4_size_4 : List UInt8 := dkwX4_size_4 ++ dktX4_size_5
def dkwX4_size_3 : List UInt8 := [160, 0, 20, 29, 42, 180, 0, 40, 27, 46, 164, 0, 10, 42, 16, 251, 182, 0, 110, 172, 28, 154, 0, 10]
abbrev dktX4_size_3 : List UInt8 := dkwX4_size_3 ++ dktX4_size_4
def dkwX4_size_2 : List UInt8 := [16, 254, 182, 0, 110, 172, 28, 154, 0, 13, 29, 42, 180, 0, 43, 27, 46, 161, 0, 18, 28, 4]
abbrev dktX4_size_2 : List UInt8 := dkwX4_size_2 ++ dktX4_size_3
def dkwX4_size_1 : List UInt8 := [29, 133, 9, 28, 5, 160, 0, 9, 20, 0, 139, 167, 0, 6, 20, 0, 106, 184, 0, 88, 154, 0, 10, 42]
abbrev dktX4_size_1 : List UInt8 := dkwX4_size_1 ++ dktX4_size_2
def dkwX4_size_0 : List UInt8 := [27, 133, 9, 20, 0, 137, 184, 0, 88, 153, 0, 38, 28, 133, 9, 20, 0, 137, 184, 0, 88, 153, 0, 26]
abbrev dktX4_size_0 : List UInt8 := dkwX4_size_0 ++ dktX4_size_1
theorem dksX4_size_0 : cX4_size.data.toList.drop 0 = dktX4_size_0 := by decide +kernel
theorem dksX4_size_1 : cX4_size.data.toList.drop 24 = dktX4_size_1 := dk_seg dksX4_size_0 24 rfl rfl
theorem dksX4_size_2 : cX4_size.data.toList.drop 48 = dktX4_size_2 := dk_seg dksX4_size_1 24 rfl rfl
theorem dksX4_size_3 : cX4_size.data.toList.drop 70 = dktX4_size_3 := dk_seg dksX4_size_2 22 rfl rfl
theorem dksX4_size_4 : cX4_size.data.toList.drop 94 = dktX4_size_4 := dk_seg dksX4_size_3 24 rfl rfl
theorem dksX4_size_5 : cX4_size.data.toList.drop 117 = dktX4_size_5 := dk_seg dksX4_size_4 23 rfl rfl
theorem dX4_size_0 : decode cX4_size 0 = .ok (.iload_n 1, 1) := dk_27 (dk_at dksX4_size_0 0 rfl rfl)
theorem dX4_size_1 : decode cX4_size 1 = .ok (.i2l, 1) := dk_133 (dk_at dksX4_size_0 1 rfl rfl)
theorem dX4_size_2 : decode cX4_size 2 = .ok (.lconst 0, 1) := dk_9 (dk_at dksX4_size_0 2 rfl rfl)
theorem dX4_size_3 : decode cX4_size 3 = .ok (.ldc2_w 137, 3) := dk_20 0 137 (dk_at dksX4_size_0 3 rfl rfl)
theorem dX4_size_6 : decode cX4_size 6 = .ok (.invokestatic 88, 3) := dk_184 0 88 (dk_at dksX4_size_0 6 rfl rfl)
theorem dX4_size_9 : decode cX4_size 9 = .ok (.ifCond .eq 38, 3) := dk_153 0 38 (dk_at dksX4_size_0 9 rfl rfl)
theorem dX4_size_12 : decode cX4_size 12 = .ok (.iload_n 2, 1) := dk_28 (dk_at dksX4_size_0 12 rfl rfl)
theorem dX4_size_13 : decode cX4_size 13 = .ok (.i2l, 1) := dk_133 (dk_at dksX4_size_0 13 rfl rfl)
theorem dX4_size_14 : decode cX4_size 14 = .ok (.lconst 0, 1) := dk_9 (dk_at dksX4_size_0 14 rfl rfl)
theorem dX4_size_15 : decode cX4_size 15 = .ok (.ldc2_w 137, 3) := dk_20 0 137 (dk_at dksX4_size_0 15 rfl rfl)
theorem dX4_size_18 : decode cX4_size 18 = .ok (.invokestatic 88, 3) := dk_184 0 88 (dk_at dksX4_size_0 18 rfl rfl)
theorem dX4_size_21 : decode cX4_size 21 = .ok (.ifCond .eq 26, 3) := dk_153 0 26 (dk_at dksX4_size_0 21 rfl rfl)
theorem dX4_size_24 : decode cX4_size 24 = .ok (.iload_n 3, 1) := dk_29 (dk_at dksX4_size_1 0 rfl rfl)
theorem dX4_size_25 : decode cX4_size 25 = .ok (.i2l, 1) := dk_133 (dk_at dksX4_size_1 1 rfl rfl)
theorem dX4_size_26 : decode cX4_size 26 = .ok (.lconst 0, 1) := dk_9 (dk_at dksX4_size_1 2 rfl rfl)
theorem dX4_size_27 : decode cX4_size 27 = .ok (.iload_n 2, 1) := dk_28 (dk_at dksX4_size_1 3 rfl rfl)
theorem dX4_size_28 : decode cX4_size 28 = .ok (.iconst 2, 1) := dk_5 (dk_at dksX4_size_1 4 rfl rfl)
theorem dX4_size_29 : decode cX4_size 29 = .ok (.if_icmp .ne 9, 3) := dk_160 0 9 (dk_at dksX4_size_1 5 rfl rfl)
theorem dX4_size_32 : decode cX4_size 32 = .ok (.ldc2_w 139, 3) := dk_20 0 139 (dk_at dksX4_size_1 8 rfl rfl)
theorem dX4_size_35 : decode cX4_size 35 = .ok (.goto 6, 3) := dk_167 0 6 (dk_at dksX4_size_1 11 rfl rfl)
theorem dX4_size_38 : decode cX4_size 38 = .ok (.ldc2_w 106, 3) := dk_20 0 106 (dk_at dksX4_size_1 14 rfl rfl)
theorem dX4_size_41 : decode cX4_size 41 = .ok (.invokestatic 88, 3) := dk_184 0 88 (dk_at dksX4_size_1 17 rfl rfl)
theorem dX4_size_44 : decode cX4_size 44 = .ok (.ifCond .ne 10, 3) := dk_154 0 10 (dk_at dksX4_size_1 20 rfl rfl)
theorem dX4_size_47 : decode cX4_size 47 = .ok (.aload_n 0, 1) := dk_42 (dk_at dksX4_size_1 23 rfl rfl)
theorem dX4_size_48 : decode cX4_size 48 = .ok (.bipush (-2), 2) := dk_16 254 (dk_at dksX4_size_2 0 rfl rfl)
theorem dX4_size_50 : decode cX4_size 50 = .ok (.invokevirtual 110, 3) := dk_182 0 110 (dk_at dksX4_size_2 2 rfl rfl)
theorem dX4_size_53 : decode cX4_size 53 = .ok (.ireturn, 1) := dk_172 (dk_at dksX4_size_2 5 rfl rfl)
theorem dX4_size_54 : decode cX4_size 54 = .ok (.iload_n 2, 1) := dk_28 (dk_at dksX4_size_2 6 rfl rfl)
theorem dX4_size_55 : decode cX4_size 55 = .ok (.ifCond .ne 13, 3) := dk_154 0 13 (dk_at dksX4_size_2 7 rfl rfl)
theorem dX4_size_58 : decode cX4_size 58 = .ok (.iload_n 3, 1) := dk_29 (dk_at dksX4_size_2 10 rfl rfl)
theorem dX4_size_59 : decode cX4_size 59 = .ok (.aload_n 0, 1) := dk_42 (dk_at dksX4_size_2 11 rfl rfl)
theorem dX4_size_60 : decode cX4_size 60 = .ok (.getfield 43, 3) := dk_180 0 43 (dk_at dksX4_size_2 12 rfl rfl)
theorem dX4_size_63 : decode cX4_size 63 = .ok (.iload_n 1, 1) := dk_27 (dk_at dksX4_size_2 15 rfl rfl)
theorem dX4_size_64 : decode cX4_size 64 = .ok (.iaload, 1) := dk_46 (dk_at dksX4_size_2 16 rfl rfl)
theorem dX4_size_65 : decode cX4_size 65 = .ok (.if_icmp .lt 18, 3) := dk_161 0 18 (dk_at dksX4_size_2 17 rfl rfl)
theorem dX4_size_68 : decode cX4_size 68 = .ok (.iload_n 2, 1) := dk_28 (dk_at dksX4_size_2 20 rfl rfl)
theorem dX4_size_69 : decode cX4_size 69 = .ok (.iconst 1, 1) := dk_4 (dk_at dksX4_size_2 21 rfl rfl)
theorem dX4_size_70 : decode cX4_size 70 = .ok (.if_icmp .ne 20, 3) := dk_160 0 20 (dk_at dksX4_size_3 0 rfl rfl)
theorem dX4_size_73 : decode cX4_size 73 = .ok (.iload_n 3, 1) := dk_29 (dk_at dksX4_size_3 3 rfl rfl)
theorem dX4_size_74 : decode cX4_size 74 = .ok (.aload_n 0, 1) := dk_42 (dk_at dksX4_size_3 4 rfl rfl)
theorem dX4_size_75 : decode cX4_size 75 = .ok (.getfield 40, 3) := dk_180 0 40 (dk_at dksX4_size_3 5 rfl rfl)
theorem dX4_size_78 : decode cX4_size 78 = .ok (.iload_n 1, 1) := dk_27 (dk_at dksX4_size_3 8 rfl rfl)
theorem dX4_size_79 : decode cX4_size 79 = .ok (.iaload, 1) := dk_46 (dk_at dksX4_size_3 9 rfl rfl)
theorem dX4_size_80 : decode cX4_size 80 = .ok (.if_icmp .le 10, 3) := dk_164 0 10 (dk_at dksX4_size_3 10 rfl rfl)
theorem dX4_size_83 : decode cX4_size 83 = .ok (.aload_n 0, 1) := dk_42 (dk_at dksX4_size_3 13 rfl rfl)
theorem dX4_size_84 : decode cX4_size 84 = .ok (.bipush (-5), 2) := dk_16 251 (dk_at dksX4_size_3 14 rfl rfl)
theorem dX4_size_86 : decode cX4_size 86 = .ok (.invokevirtual 110, 3) := dk_182 0 110 (dk_at dksX4_size_3 16 rfl rfl)
theorem dX4_size_89 : decode cX4_size 89 = .ok (.ireturn, 1) := dk_172 (dk_at dksX4_size_3 19 rfl rfl)
theorem dX4_size_90 : decode cX4_size 90 = .ok (.iload_n 2, 1) := dk_28 (dk_at dksX4_size_3 20 rfl rfl)
theorem dX4_size_91 : decode cX4_size 91 = .ok (.ifCond .ne 10, 3) := dk_154 0 10 (dk_at dksX4_size_3 21 rfl rfl)
theorem dX4_size_94 : decode cX4_size 94 = .ok (.aload_n 0, 1) := dk_42 (dk_at dksX4_size_4 0 rfl rfl)
theorem dX4_size_95 : decode cX4_size 95 = .ok (.getfield 40, 3) := dk_180 0 40 (dk_at dksX4_size_4 1 rfl rfl)
theorem dX4_size_98 : decode cX4_size 98 = .ok (.goto 19, 3) := dk_167 0 19 (dk_at dksX4_size_4 4 rfl rfl)
theorem dX4_size_101 : decode cX4_size 101 = .ok (.iload_n 2, 1) := dk_28 (dk_at dksX4_size_4 7 rfl rfl)
theorem dX4_size_102 : decode cX4_size 102 = .ok (.iconst 1, 1) := dk_4 (dk_at dksX4_size_4 8 rfl rfl)
theorem dX4_size_103 : decode cX4_size 103 = .ok (.if_icmp .ne 10, 3) := dk_160 0 10 (dk_at dksX4_size_4 9 rfl rfl)
theorem dX4_size_106 : decode cX4_size 106 = .ok (.aload_n 0, 1) := dk_42 (dk_at dksX4_size_4 12 rfl rfl)
theorem dX4_size_107 : decode cX4_size 107 = .ok (.getfield 43, 3) := dk_180 0 43 (dk_at dksX4_size_4 13 rfl rfl)
theorem dX4_size_110 : decode cX4_size 110 = .ok (.goto 7, 3) := dk_167 0 7 (dk_at dksX4_size_4 16 rfl rfl)
theorem dX4_size_113 : decode cX4_size 113 = .ok (.aload_n 0, 1) := dk_42 (dk_at dksX4_size_4 19 rfl rfl)
theorem dX4_size_114 : decode cX4_size 114 = .ok (.getfield 46, 3) := dk_180 0 46 (dk_at dksX4_size_4 20 rfl rfl)
theorem dX4_size_117 : decode cX4_size 117 = .ok (.astore 4, 2) := dk_58 4 (dk_at dksX4_size_5 0 rfl rfl)
theorem dX4_size_119 : decode cX4_size 119 = .ok (.aload 4, 2) := dk_25 4 (dk_at dksX4_size_5 2 rfl rfl)
theorem dX4_size_121 : decode cX4_size 121 = .ok (.iload_n 1, 1) := dk_27 (dk_at dksX4_size_5 4 rfl rfl)
theorem dX4_size_122 : decode cX4_size 122 = .ok (.iaload, 1) := dk_46 (dk_at dksX4_size_5 5 rfl rfl)
theorem dX4_size_123 : decode cX4_size 123 = .ok (.istore 5, 2) := dk_54 5 (dk_at dksX4_size_5 6 rfl rfl)
theorem dX4_size_125 : decode cX4_size 125 = .ok (.aload 4, 2) := dk_25 4 (dk_at dksX4_size_5 8 rfl rfl)
theorem dX4_size_127 : decode cX4_size 127 = .ok (.iload_n 1, 1) := dk_27 (dk_at dksX4_size_5 10 rfl rfl)
theorem dX4_size_128 : decode cX4_size 128 = .ok (.iload_n 3, 1) := dk_29 (dk_at dksX4_size_5 11 rfl rfl)
theorem dX4_size_129 : decode cX4_size 129 = .ok (.iastore, 1) := dk_79 (dk_at dksX4_size_5 12 rfl rfl)
theorem dX4_size_130 : decode cX4_size 130 = .ok (.iload 5, 2) := dk_21 5 (dk_at dksX4_size_5 13 rfl rfl)
theorem dX4_size_132 : decode cX4_size 132 = .ok (.ireturn, 1) := dk_172 (dk_at dksX4_size_5 15 rfl rfl)
abbrev cX4_sort : ByteArray := prog_19_method_24_code
def yX4_sort : MethodName := ⟨RX4, "sort", "(IIII)I"⟩
def dkwX4_sort_1 : List UInt8 := [182, 0, 110, 167, 0, 5, 21, 5, 172]
abbrev dktX4_sort_1 : List UInt8 := dkwX4_sort_1 ++ []
def dkwX4_sort_0 : List UInt8 := [42, 27, 133, 28, 133, 29, 133, 21, 4, 133, 182, 0, 146, 54, 5, 21, 5, 156, 0, 12, 42, 21, 5]
abbrev dktX4_sort_0 : List UInt8 := dkwX4_sort_0 ++ dktX4_sort_1
theorem dksX4_sort_0 : cX4_sort.data.toList.drop 0 = dktX4_sort_0 := by decide +kernel
theorem dksX4_sort_1 : cX4_sort.data.toList.drop 23 = dktX4_sort_1 := dk_seg dksX4_sort_0 23 rfl rfl
theorem dX4_sort_0 : decode cX4_sort 0 = .ok (.aload_n 0, 1) := dk_42 (dk_at dksX4_sort_0 0 rfl rfl)
theorem dX4_sort_1 : decode cX4_sort 1 = .ok (.iload_n 1, 1) := dk_27 (dk_at dksX4_sort_0 1 rfl rfl)
theorem dX4_sort_2 : decode cX4_sort 2 = .ok (.i2l, 1) := dk_133 (dk_at dksX4_sort_0 2 rfl rfl)
theorem dX4_sort_3 : decode cX4_sort 3 = .ok (.iload_n 2, 1) := dk_28 (dk_at dksX4_sort_0 3 rfl rfl)
theorem dX4_sort_4 : decode cX4_sort 4 = .ok (.i2l, 1) := dk_133 (dk_at dksX4_sort_0 4 rfl rfl)
theorem dX4_sort_5 : decode cX4_sort 5 = .ok (.iload_n 3, 1) := dk_29 (dk_at dksX4_sort_0 5 rfl rfl)
theorem dX4_sort_6 : decode cX4_sort 6 = .ok (.i2l, 1) := dk_133 (dk_at dksX4_sort_0 6 rfl rfl)
theorem dX4_sort_7 : decode cX4_sort 7 = .ok (.iload 4, 2) := dk_21 4 (dk_at dksX4_sort_0 7 rfl rfl)
theorem dX4_sort_9 : decode cX4_sort 9 = .ok (.i2l, 1) := dk_133 (dk_at dksX4_sort_0 9 rfl rfl)
theorem dX4_sort_10 : decode cX4_sort 10 = .ok (.invokevirtual 146, 3) := dk_182 0 146 (dk_at dksX4_sort_0 10 rfl rfl)
theorem dX4_sort_13 : decode cX4_sort 13 = .ok (.istore 5, 2) := dk_54 5 (dk_at dksX4_sort_0 13 rfl rfl)
theorem dX4_sort_15 : decode cX4_sort 15 = .ok (.iload 5, 2) := dk_21 5 (dk_at dksX4_sort_0 15 rfl rfl)
theorem dX4_sort_17 : decode cX4_sort 17 = .ok (.ifCond .ge 12, 3) := dk_156 0 12 (dk_at dksX4_sort_0 17 rfl rfl)
theorem dX4_sort_20 : decode cX4_sort 20 = .ok (.aload_n 0, 1) := dk_42 (dk_at dksX4_sort_0 20 rfl rfl)
theorem dX4_sort_21 : decode cX4_sort 21 = .ok (.iload 5, 2) := dk_21 5 (dk_at dksX4_sort_0 21 rfl rfl)
theorem dX4_sort_23 : decode cX4_sort 23 = .ok (.invokevirtual 110, 3) := dk_182 0 110 (dk_at dksX4_sort_1 0 rfl rfl)
theorem dX4_sort_26 : decode cX4_sort 26 = .ok (.goto 5, 3) := dk_167 0 5 (dk_at dksX4_sort_1 3 rfl rfl)
theorem dX4_sort_29 : decode cX4_sort 29 = .ok (.iload 5, 2) := dk_21 5 (dk_at dksX4_sort_1 6 rfl rfl)
theorem dX4_sort_31 : decode cX4_sort 31 = .ok (.ireturn, 1) := dk_172 (dk_at dksX4_sort_1 8 rfl rfl)
abbrev cX4_add : ByteArray := prog_19_method_23_code
def yX4_add : MethodName := ⟨RX4, "add", "(JJJJ)I"⟩
def dkwX4_add_6 : List UInt8 := [172]
abbrev dktX4_add_6 : List UInt8 := dkwX4_add_6 ++ []
def dkwX4_add_5 : List UInt8 := [180, 0, 51, 42, 180, 0, 85, 50, 6, 22, 7, 136, 79, 42, 89, 180, 0, 85, 90, 4, 96, 181, 0, 85]
abbrev dktX4_add_5 : List UInt8 := dkwX4_add_5 ++ dktX4_add_6
def dkwX4_add_4 : List UInt8 := [180, 0, 85, 50, 4, 33, 136, 79, 42, 180, 0, 51, 42, 180, 0, 85, 50, 5, 22, 5, 136, 79, 42]
abbrev dktX4_add_4 : List UInt8 := dkwX4_add_4 ++ dktX4_add_5
def dkwX4_add_3 : List UInt8 := [160, 0, 6, 16, 250, 172, 42, 180, 0, 51, 42, 180, 0, 85, 50, 3, 31, 136, 79, 42, 180, 0, 51, 42]
abbrev dktX4_add_3 : List UInt8 := dkwX4_add_3 ++ dktX4_add_4
def dkwX4_add_2 : List UInt8 := [172, 42, 182, 0, 143, 133, 33, 97, 20, 0, 141, 148, 158, 0, 6, 16, 251, 172, 42, 180, 0, 85, 16, 6]
abbrev dktX4_add_2 : List UInt8 := dkwX4_add_2 ++ dktX4_add_3
def dkwX4_add_1 : List UInt8 := [10, 20, 0, 120, 184, 0, 88, 153, 0, 15, 22, 7, 9, 20, 0, 120, 184, 0, 88, 154, 0, 6, 16, 254]
abbrev dktX4_add_1 : List UInt8 := dkwX4_add_1 ++ dktX4_add_2
def dkwX4_add_0 : List UInt8 := [31, 9, 20, 0, 137, 184, 0, 88, 153, 0, 38, 33, 9, 20, 0, 141, 184, 0, 88, 153, 0, 27, 22, 5]
abbrev dktX4_add_0 : List UInt8 := dkwX4_add_0 ++ dktX4_add_1
theorem dksX4_add_0 : cX4_add.data.toList.drop 0 = dktX4_add_0 := by decide +kernel
theorem dksX4_add_1 : cX4_add.data.toList.drop 24 = dktX4_add_1 := dk_seg dksX4_add_0 24 rfl rfl
theorem dksX4_add_2 : cX4_add.data.toList.drop 48 = dktX4_add_2 := dk_seg dksX4_add_1 24 rfl rfl
theorem dksX4_add_3 : cX4_add.data.toList.drop 72 = dktX4_add_3 := dk_seg dksX4_add_2 24 rfl rfl
theorem dksX4_add_4 : cX4_add.data.toList.drop 96 = dktX4_add_4 := dk_seg dksX4_add_3 24 rfl rfl
theorem dksX4_add_5 : cX4_add.data.toList.drop 119 = dktX4_add_5 := dk_seg dksX4_add_4 23 rfl rfl
theorem dksX4_add_6 : cX4_add.data.toList.drop 143 = dktX4_add_6 := dk_seg dksX4_add_5 24 rfl rfl
theorem dX4_add_0 : decode cX4_add 0 = .ok (.lload_n 1, 1) := dk_31 (dk_at dksX4_add_0 0 rfl rfl)
theorem dX4_add_1 : decode cX4_add 1 = .ok (.lconst 0, 1) := dk_9 (dk_at dksX4_add_0 1 rfl rfl)
theorem dX4_add_2 : decode cX4_add 2 = .ok (.ldc2_w 137, 3) := dk_20 0 137 (dk_at dksX4_add_0 2 rfl rfl)
theorem dX4_add_5 : decode cX4_add 5 = .ok (.invokestatic 88, 3) := dk_184 0 88 (dk_at dksX4_add_0 5 rfl rfl)
theorem dX4_add_8 : decode cX4_add 8 = .ok (.ifCond .eq 38, 3) := dk_153 0 38 (dk_at dksX4_add_0 8 rfl rfl)
theorem dX4_add_11 : decode cX4_add 11 = .ok (.lload_n 3, 1) := dk_33 (dk_at dksX4_add_0 11 rfl rfl)
theorem dX4_add_12 : decode cX4_add 12 = .ok (.lconst 0, 1) := dk_9 (dk_at dksX4_add_0 12 rfl rfl)
theorem dX4_add_13 : decode cX4_add 13 = .ok (.ldc2_w 141, 3) := dk_20 0 141 (dk_at dksX4_add_0 13 rfl rfl)
theorem dX4_add_16 : decode cX4_add 16 = .ok (.invokestatic 88, 3) := dk_184 0 88 (dk_at dksX4_add_0 16 rfl rfl)
theorem dX4_add_19 : decode cX4_add 19 = .ok (.ifCond .eq 27, 3) := dk_153 0 27 (dk_at dksX4_add_0 19 rfl rfl)
theorem dX4_add_22 : decode cX4_add 22 = .ok (.lload 5, 2) := dk_22 5 (dk_at dksX4_add_0 22 rfl rfl)
theorem dX4_add_24 : decode cX4_add 24 = .ok (.lconst 1, 1) := dk_10 (dk_at dksX4_add_1 0 rfl rfl)
theorem dX4_add_25 : decode cX4_add 25 = .ok (.ldc2_w 120, 3) := dk_20 0 120 (dk_at dksX4_add_1 1 rfl rfl)
theorem dX4_add_28 : decode cX4_add 28 = .ok (.invokestatic 88, 3) := dk_184 0 88 (dk_at dksX4_add_1 4 rfl rfl)
theorem dX4_add_31 : decode cX4_add 31 = .ok (.ifCond .eq 15, 3) := dk_153 0 15 (dk_at dksX4_add_1 7 rfl rfl)
theorem dX4_add_34 : decode cX4_add 34 = .ok (.lload 7, 2) := dk_22 7 (dk_at dksX4_add_1 10 rfl rfl)
theorem dX4_add_36 : decode cX4_add 36 = .ok (.lconst 0, 1) := dk_9 (dk_at dksX4_add_1 12 rfl rfl)
theorem dX4_add_37 : decode cX4_add 37 = .ok (.ldc2_w 120, 3) := dk_20 0 120 (dk_at dksX4_add_1 13 rfl rfl)
theorem dX4_add_40 : decode cX4_add 40 = .ok (.invokestatic 88, 3) := dk_184 0 88 (dk_at dksX4_add_1 16 rfl rfl)
theorem dX4_add_43 : decode cX4_add 43 = .ok (.ifCond .ne 6, 3) := dk_154 0 6 (dk_at dksX4_add_1 19 rfl rfl)
theorem dX4_add_46 : decode cX4_add 46 = .ok (.bipush (-2), 2) := dk_16 254 (dk_at dksX4_add_1 22 rfl rfl)
theorem dX4_add_48 : decode cX4_add 48 = .ok (.ireturn, 1) := dk_172 (dk_at dksX4_add_2 0 rfl rfl)
theorem dX4_add_49 : decode cX4_add 49 = .ok (.aload_n 0, 1) := dk_42 (dk_at dksX4_add_2 1 rfl rfl)
theorem dX4_add_50 : decode cX4_add 50 = .ok (.invokevirtual 143, 3) := dk_182 0 143 (dk_at dksX4_add_2 2 rfl rfl)
theorem dX4_add_53 : decode cX4_add 53 = .ok (.i2l, 1) := dk_133 (dk_at dksX4_add_2 5 rfl rfl)
theorem dX4_add_54 : decode cX4_add 54 = .ok (.lload_n 3, 1) := dk_33 (dk_at dksX4_add_2 6 rfl rfl)
theorem dX4_add_55 : decode cX4_add 55 = .ok (.ladd, 1) := dk_97 (dk_at dksX4_add_2 7 rfl rfl)
theorem dX4_add_56 : decode cX4_add 56 = .ok (.ldc2_w 141, 3) := dk_20 0 141 (dk_at dksX4_add_2 8 rfl rfl)
theorem dX4_add_59 : decode cX4_add 59 = .ok (.lcmp, 1) := dk_148 (dk_at dksX4_add_2 11 rfl rfl)
theorem dX4_add_60 : decode cX4_add 60 = .ok (.ifCond .le 6, 3) := dk_158 0 6 (dk_at dksX4_add_2 12 rfl rfl)
theorem dX4_add_63 : decode cX4_add 63 = .ok (.bipush (-5), 2) := dk_16 251 (dk_at dksX4_add_2 15 rfl rfl)
theorem dX4_add_65 : decode cX4_add 65 = .ok (.ireturn, 1) := dk_172 (dk_at dksX4_add_2 17 rfl rfl)
theorem dX4_add_66 : decode cX4_add 66 = .ok (.aload_n 0, 1) := dk_42 (dk_at dksX4_add_2 18 rfl rfl)
theorem dX4_add_67 : decode cX4_add 67 = .ok (.getfield 85, 3) := dk_180 0 85 (dk_at dksX4_add_2 19 rfl rfl)
theorem dX4_add_70 : decode cX4_add 70 = .ok (.bipush 6, 2) := dk_16 6 (dk_at dksX4_add_2 22 rfl rfl)
theorem dX4_add_72 : decode cX4_add 72 = .ok (.if_icmp .ne 6, 3) := dk_160 0 6 (dk_at dksX4_add_3 0 rfl rfl)
theorem dX4_add_75 : decode cX4_add 75 = .ok (.bipush (-6), 2) := dk_16 250 (dk_at dksX4_add_3 3 rfl rfl)
theorem dX4_add_77 : decode cX4_add 77 = .ok (.ireturn, 1) := dk_172 (dk_at dksX4_add_3 5 rfl rfl)
theorem dX4_add_78 : decode cX4_add 78 = .ok (.aload_n 0, 1) := dk_42 (dk_at dksX4_add_3 6 rfl rfl)
theorem dX4_add_79 : decode cX4_add 79 = .ok (.getfield 51, 3) := dk_180 0 51 (dk_at dksX4_add_3 7 rfl rfl)
theorem dX4_add_82 : decode cX4_add 82 = .ok (.aload_n 0, 1) := dk_42 (dk_at dksX4_add_3 10 rfl rfl)
theorem dX4_add_83 : decode cX4_add 83 = .ok (.getfield 85, 3) := dk_180 0 85 (dk_at dksX4_add_3 11 rfl rfl)
theorem dX4_add_86 : decode cX4_add 86 = .ok (.aaload, 1) := dk_50 (dk_at dksX4_add_3 14 rfl rfl)
theorem dX4_add_87 : decode cX4_add 87 = .ok (.iconst 0, 1) := dk_3 (dk_at dksX4_add_3 15 rfl rfl)
theorem dX4_add_88 : decode cX4_add 88 = .ok (.lload_n 1, 1) := dk_31 (dk_at dksX4_add_3 16 rfl rfl)
theorem dX4_add_89 : decode cX4_add 89 = .ok (.l2i, 1) := dk_136 (dk_at dksX4_add_3 17 rfl rfl)
theorem dX4_add_90 : decode cX4_add 90 = .ok (.iastore, 1) := dk_79 (dk_at dksX4_add_3 18 rfl rfl)
theorem dX4_add_91 : decode cX4_add 91 = .ok (.aload_n 0, 1) := dk_42 (dk_at dksX4_add_3 19 rfl rfl)
theorem dX4_add_92 : decode cX4_add 92 = .ok (.getfield 51, 3) := dk_180 0 51 (dk_at dksX4_add_3 20 rfl rfl)
theorem dX4_add_95 : decode cX4_add 95 = .ok (.aload_n 0, 1) := dk_42 (dk_at dksX4_add_3 23 rfl rfl)
theorem dX4_add_96 : decode cX4_add 96 = .ok (.getfield 85, 3) := dk_180 0 85 (dk_at dksX4_add_4 0 rfl rfl)
theorem dX4_add_99 : decode cX4_add 99 = .ok (.aaload, 1) := dk_50 (dk_at dksX4_add_4 3 rfl rfl)
theorem dX4_add_100 : decode cX4_add 100 = .ok (.iconst 1, 1) := dk_4 (dk_at dksX4_add_4 4 rfl rfl)
theorem dX4_add_101 : decode cX4_add 101 = .ok (.lload_n 3, 1) := dk_33 (dk_at dksX4_add_4 5 rfl rfl)
theorem dX4_add_102 : decode cX4_add 102 = .ok (.l2i, 1) := dk_136 (dk_at dksX4_add_4 6 rfl rfl)
theorem dX4_add_103 : decode cX4_add 103 = .ok (.iastore, 1) := dk_79 (dk_at dksX4_add_4 7 rfl rfl)
theorem dX4_add_104 : decode cX4_add 104 = .ok (.aload_n 0, 1) := dk_42 (dk_at dksX4_add_4 8 rfl rfl)
theorem dX4_add_105 : decode cX4_add 105 = .ok (.getfield 51, 3) := dk_180 0 51 (dk_at dksX4_add_4 9 rfl rfl)
theorem dX4_add_108 : decode cX4_add 108 = .ok (.aload_n 0, 1) := dk_42 (dk_at dksX4_add_4 12 rfl rfl)
theorem dX4_add_109 : decode cX4_add 109 = .ok (.getfield 85, 3) := dk_180 0 85 (dk_at dksX4_add_4 13 rfl rfl)
theorem dX4_add_112 : decode cX4_add 112 = .ok (.aaload, 1) := dk_50 (dk_at dksX4_add_4 16 rfl rfl)
theorem dX4_add_113 : decode cX4_add 113 = .ok (.iconst 2, 1) := dk_5 (dk_at dksX4_add_4 17 rfl rfl)
theorem dX4_add_114 : decode cX4_add 114 = .ok (.lload 5, 2) := dk_22 5 (dk_at dksX4_add_4 18 rfl rfl)
theorem dX4_add_116 : decode cX4_add 116 = .ok (.l2i, 1) := dk_136 (dk_at dksX4_add_4 20 rfl rfl)
theorem dX4_add_117 : decode cX4_add 117 = .ok (.iastore, 1) := dk_79 (dk_at dksX4_add_4 21 rfl rfl)
theorem dX4_add_118 : decode cX4_add 118 = .ok (.aload_n 0, 1) := dk_42 (dk_at dksX4_add_4 22 rfl rfl)
theorem dX4_add_119 : decode cX4_add 119 = .ok (.getfield 51, 3) := dk_180 0 51 (dk_at dksX4_add_5 0 rfl rfl)
theorem dX4_add_122 : decode cX4_add 122 = .ok (.aload_n 0, 1) := dk_42 (dk_at dksX4_add_5 3 rfl rfl)
theorem dX4_add_123 : decode cX4_add 123 = .ok (.getfield 85, 3) := dk_180 0 85 (dk_at dksX4_add_5 4 rfl rfl)
theorem dX4_add_126 : decode cX4_add 126 = .ok (.aaload, 1) := dk_50 (dk_at dksX4_add_5 7 rfl rfl)
theorem dX4_add_127 : decode cX4_add 127 = .ok (.iconst 3, 1) := dk_6 (dk_at dksX4_add_5 8 rfl rfl)
theorem dX4_add_128 : decode cX4_add 128 = .ok (.lload 7, 2) := dk_22 7 (dk_at dksX4_add_5 9 rfl rfl)
theorem dX4_add_130 : decode cX4_add 130 = .ok (.l2i, 1) := dk_136 (dk_at dksX4_add_5 11 rfl rfl)
theorem dX4_add_131 : decode cX4_add 131 = .ok (.iastore, 1) := dk_79 (dk_at dksX4_add_5 12 rfl rfl)
theorem dX4_add_132 : decode cX4_add 132 = .ok (.aload_n 0, 1) := dk_42 (dk_at dksX4_add_5 13 rfl rfl)
theorem dX4_add_133 : decode cX4_add 133 = .ok (.dup, 1) := dk_89 (dk_at dksX4_add_5 14 rfl rfl)
theorem dX4_add_134 : decode cX4_add 134 = .ok (.getfield 85, 3) := dk_180 0 85 (dk_at dksX4_add_5 15 rfl rfl)
theorem dX4_add_137 : decode cX4_add 137 = .ok (.dup_x1, 1) := dk_90 (dk_at dksX4_add_5 18 rfl rfl)
theorem dX4_add_138 : decode cX4_add 138 = .ok (.iconst 1, 1) := dk_4 (dk_at dksX4_add_5 19 rfl rfl)
theorem dX4_add_139 : decode cX4_add 139 = .ok (.iadd, 1) := dk_96 (dk_at dksX4_add_5 20 rfl rfl)
theorem dX4_add_140 : decode cX4_add 140 = .ok (.putfield 85, 3) := dk_181 0 85 (dk_at dksX4_add_5 21 rfl rfl)
theorem dX4_add_143 : decode cX4_add 143 = .ok (.ireturn, 1) := dk_172 (dk_at dksX4_add_6 0 rfl rfl)
abbrev cX4_sorts : ByteArray := prog_19_method_25_code
def yX4_sorts : MethodName := ⟨RX4, "sorts", "(II)I"⟩
def dkwX4_sorts_4 : List UInt8 := [182, 0, 146, 156, 0, 6, 21, 4, 172, 132, 4, 1, 132, 5, 4, 167, 255, 192, 21, 4, 172]
abbrev dktX4_sorts_4 : List UInt8 := dkwX4_sorts_4 ++ []
def dkwX4_sorts_3 : List UInt8 := [42, 180, 0, 21, 27, 50, 21, 5, 5, 96, 47, 42, 180, 0, 21, 27, 50, 21, 5, 6, 96, 47]
abbrev dktX4_sorts_3 : List UInt8 := dkwX4_sorts_3 ++ dktX4_sorts_4
def dkwX4_sorts_2 : List UInt8 := [162, 0, 64, 42, 42, 180, 0, 21, 27, 50, 21, 5, 47, 42, 180, 0, 21, 27, 50, 21, 5, 4, 96, 47]
abbrev dktX4_sorts_2 : List UInt8 := dkwX4_sorts_2 ++ dktX4_sorts_3
def dkwX4_sorts_1 : List UInt8 := [180, 0, 16, 27, 46, 164, 0, 10, 42, 16, 254, 182, 0, 110, 172, 3, 54, 4, 3, 54, 5, 21, 5, 28]
abbrev dktX4_sorts_1 : List UInt8 := dkwX4_sorts_1 ++ dktX4_sorts_2
def dkwX4_sorts_0 : List UInt8 := [42, 27, 182, 0, 150, 62, 29, 153, 0, 5, 29, 172, 28, 155, 0, 19, 28, 7, 112, 154, 0, 13, 28, 42]
abbrev dktX4_sorts_0 : List UInt8 := dkwX4_sorts_0 ++ dktX4_sorts_1
theorem dksX4_sorts_0 : cX4_sorts.data.toList.drop 0 = dktX4_sorts_0 := by decide +kernel
theorem dksX4_sorts_1 : cX4_sorts.data.toList.drop 24 = dktX4_sorts_1 := dk_seg dksX4_sorts_0 24 rfl rfl
theorem dksX4_sorts_2 : cX4_sorts.data.toList.drop 48 = dktX4_sorts_2 := dk_seg dksX4_sorts_1 24 rfl rfl
theorem dksX4_sorts_3 : cX4_sorts.data.toList.drop 72 = dktX4_sorts_3 := dk_seg dksX4_sorts_2 24 rfl rfl
theorem dksX4_sorts_4 : cX4_sorts.data.toList.drop 94 = dktX4_sorts_4 := dk_seg dksX4_sorts_3 22 rfl rfl
theorem dX4_sorts_0 : decode cX4_sorts 0 = .ok (.aload_n 0, 1) := dk_42 (dk_at dksX4_sorts_0 0 rfl rfl)
theorem dX4_sorts_1 : decode cX4_sorts 1 = .ok (.iload_n 1, 1) := dk_27 (dk_at dksX4_sorts_0 1 rfl rfl)
theorem dX4_sorts_2 : decode cX4_sorts 2 = .ok (.invokevirtual 150, 3) := dk_182 0 150 (dk_at dksX4_sorts_0 2 rfl rfl)
theorem dX4_sorts_5 : decode cX4_sorts 5 = .ok (.istore_n 3, 1) := dk_62 (dk_at dksX4_sorts_0 5 rfl rfl)
theorem dX4_sorts_6 : decode cX4_sorts 6 = .ok (.iload_n 3, 1) := dk_29 (dk_at dksX4_sorts_0 6 rfl rfl)
theorem dX4_sorts_7 : decode cX4_sorts 7 = .ok (.ifCond .eq 5, 3) := dk_153 0 5 (dk_at dksX4_sorts_0 7 rfl rfl)
theorem dX4_sorts_10 : decode cX4_sorts 10 = .ok (.iload_n 3, 1) := dk_29 (dk_at dksX4_sorts_0 10 rfl rfl)
theorem dX4_sorts_11 : decode cX4_sorts 11 = .ok (.ireturn, 1) := dk_172 (dk_at dksX4_sorts_0 11 rfl rfl)
theorem dX4_sorts_12 : decode cX4_sorts 12 = .ok (.iload_n 2, 1) := dk_28 (dk_at dksX4_sorts_0 12 rfl rfl)
theorem dX4_sorts_13 : decode cX4_sorts 13 = .ok (.ifCond .lt 19, 3) := dk_155 0 19 (dk_at dksX4_sorts_0 13 rfl rfl)
theorem dX4_sorts_16 : decode cX4_sorts 16 = .ok (.iload_n 2, 1) := dk_28 (dk_at dksX4_sorts_0 16 rfl rfl)
theorem dX4_sorts_17 : decode cX4_sorts 17 = .ok (.iconst 4, 1) := dk_7 (dk_at dksX4_sorts_0 17 rfl rfl)
theorem dX4_sorts_18 : decode cX4_sorts 18 = .ok (.irem, 1) := dk_112 (dk_at dksX4_sorts_0 18 rfl rfl)
theorem dX4_sorts_19 : decode cX4_sorts 19 = .ok (.ifCond .ne 13, 3) := dk_154 0 13 (dk_at dksX4_sorts_0 19 rfl rfl)
theorem dX4_sorts_22 : decode cX4_sorts 22 = .ok (.iload_n 2, 1) := dk_28 (dk_at dksX4_sorts_0 22 rfl rfl)
theorem dX4_sorts_23 : decode cX4_sorts 23 = .ok (.aload_n 0, 1) := dk_42 (dk_at dksX4_sorts_0 23 rfl rfl)
theorem dX4_sorts_24 : decode cX4_sorts 24 = .ok (.getfield 16, 3) := dk_180 0 16 (dk_at dksX4_sorts_1 0 rfl rfl)
theorem dX4_sorts_27 : decode cX4_sorts 27 = .ok (.iload_n 1, 1) := dk_27 (dk_at dksX4_sorts_1 3 rfl rfl)
theorem dX4_sorts_28 : decode cX4_sorts 28 = .ok (.iaload, 1) := dk_46 (dk_at dksX4_sorts_1 4 rfl rfl)
theorem dX4_sorts_29 : decode cX4_sorts 29 = .ok (.if_icmp .le 10, 3) := dk_164 0 10 (dk_at dksX4_sorts_1 5 rfl rfl)
theorem dX4_sorts_32 : decode cX4_sorts 32 = .ok (.aload_n 0, 1) := dk_42 (dk_at dksX4_sorts_1 8 rfl rfl)
theorem dX4_sorts_33 : decode cX4_sorts 33 = .ok (.bipush (-2), 2) := dk_16 254 (dk_at dksX4_sorts_1 9 rfl rfl)
theorem dX4_sorts_35 : decode cX4_sorts 35 = .ok (.invokevirtual 110, 3) := dk_182 0 110 (dk_at dksX4_sorts_1 11 rfl rfl)
theorem dX4_sorts_38 : decode cX4_sorts 38 = .ok (.ireturn, 1) := dk_172 (dk_at dksX4_sorts_1 14 rfl rfl)
theorem dX4_sorts_39 : decode cX4_sorts 39 = .ok (.iconst 0, 1) := dk_3 (dk_at dksX4_sorts_1 15 rfl rfl)
theorem dX4_sorts_40 : decode cX4_sorts 40 = .ok (.istore 4, 2) := dk_54 4 (dk_at dksX4_sorts_1 16 rfl rfl)
theorem dX4_sorts_42 : decode cX4_sorts 42 = .ok (.iconst 0, 1) := dk_3 (dk_at dksX4_sorts_1 18 rfl rfl)
theorem dX4_sorts_43 : decode cX4_sorts 43 = .ok (.istore 5, 2) := dk_54 5 (dk_at dksX4_sorts_1 19 rfl rfl)
theorem dX4_sorts_45 : decode cX4_sorts 45 = .ok (.iload 5, 2) := dk_21 5 (dk_at dksX4_sorts_1 21 rfl rfl)
theorem dX4_sorts_47 : decode cX4_sorts 47 = .ok (.iload_n 2, 1) := dk_28 (dk_at dksX4_sorts_1 23 rfl rfl)
theorem dX4_sorts_48 : decode cX4_sorts 48 = .ok (.if_icmp .ge 64, 3) := dk_162 0 64 (dk_at dksX4_sorts_2 0 rfl rfl)
theorem dX4_sorts_51 : decode cX4_sorts 51 = .ok (.aload_n 0, 1) := dk_42 (dk_at dksX4_sorts_2 3 rfl rfl)
theorem dX4_sorts_52 : decode cX4_sorts 52 = .ok (.aload_n 0, 1) := dk_42 (dk_at dksX4_sorts_2 4 rfl rfl)
theorem dX4_sorts_53 : decode cX4_sorts 53 = .ok (.getfield 21, 3) := dk_180 0 21 (dk_at dksX4_sorts_2 5 rfl rfl)
theorem dX4_sorts_56 : decode cX4_sorts 56 = .ok (.iload_n 1, 1) := dk_27 (dk_at dksX4_sorts_2 8 rfl rfl)
theorem dX4_sorts_57 : decode cX4_sorts 57 = .ok (.aaload, 1) := dk_50 (dk_at dksX4_sorts_2 9 rfl rfl)
theorem dX4_sorts_58 : decode cX4_sorts 58 = .ok (.iload 5, 2) := dk_21 5 (dk_at dksX4_sorts_2 10 rfl rfl)
theorem dX4_sorts_60 : decode cX4_sorts 60 = .ok (.laload, 1) := dk_47 (dk_at dksX4_sorts_2 12 rfl rfl)
theorem dX4_sorts_61 : decode cX4_sorts 61 = .ok (.aload_n 0, 1) := dk_42 (dk_at dksX4_sorts_2 13 rfl rfl)
theorem dX4_sorts_62 : decode cX4_sorts 62 = .ok (.getfield 21, 3) := dk_180 0 21 (dk_at dksX4_sorts_2 14 rfl rfl)
theorem dX4_sorts_65 : decode cX4_sorts 65 = .ok (.iload_n 1, 1) := dk_27 (dk_at dksX4_sorts_2 17 rfl rfl)
theorem dX4_sorts_66 : decode cX4_sorts 66 = .ok (.aaload, 1) := dk_50 (dk_at dksX4_sorts_2 18 rfl rfl)
theorem dX4_sorts_67 : decode cX4_sorts 67 = .ok (.iload 5, 2) := dk_21 5 (dk_at dksX4_sorts_2 19 rfl rfl)
theorem dX4_sorts_69 : decode cX4_sorts 69 = .ok (.iconst 1, 1) := dk_4 (dk_at dksX4_sorts_2 21 rfl rfl)
theorem dX4_sorts_70 : decode cX4_sorts 70 = .ok (.iadd, 1) := dk_96 (dk_at dksX4_sorts_2 22 rfl rfl)
theorem dX4_sorts_71 : decode cX4_sorts 71 = .ok (.laload, 1) := dk_47 (dk_at dksX4_sorts_2 23 rfl rfl)
theorem dX4_sorts_72 : decode cX4_sorts 72 = .ok (.aload_n 0, 1) := dk_42 (dk_at dksX4_sorts_3 0 rfl rfl)
theorem dX4_sorts_73 : decode cX4_sorts 73 = .ok (.getfield 21, 3) := dk_180 0 21 (dk_at dksX4_sorts_3 1 rfl rfl)
theorem dX4_sorts_76 : decode cX4_sorts 76 = .ok (.iload_n 1, 1) := dk_27 (dk_at dksX4_sorts_3 4 rfl rfl)
theorem dX4_sorts_77 : decode cX4_sorts 77 = .ok (.aaload, 1) := dk_50 (dk_at dksX4_sorts_3 5 rfl rfl)
theorem dX4_sorts_78 : decode cX4_sorts 78 = .ok (.iload 5, 2) := dk_21 5 (dk_at dksX4_sorts_3 6 rfl rfl)
theorem dX4_sorts_80 : decode cX4_sorts 80 = .ok (.iconst 2, 1) := dk_5 (dk_at dksX4_sorts_3 8 rfl rfl)
theorem dX4_sorts_81 : decode cX4_sorts 81 = .ok (.iadd, 1) := dk_96 (dk_at dksX4_sorts_3 9 rfl rfl)
theorem dX4_sorts_82 : decode cX4_sorts 82 = .ok (.laload, 1) := dk_47 (dk_at dksX4_sorts_3 10 rfl rfl)
theorem dX4_sorts_83 : decode cX4_sorts 83 = .ok (.aload_n 0, 1) := dk_42 (dk_at dksX4_sorts_3 11 rfl rfl)
theorem dX4_sorts_84 : decode cX4_sorts 84 = .ok (.getfield 21, 3) := dk_180 0 21 (dk_at dksX4_sorts_3 12 rfl rfl)
theorem dX4_sorts_87 : decode cX4_sorts 87 = .ok (.iload_n 1, 1) := dk_27 (dk_at dksX4_sorts_3 15 rfl rfl)
theorem dX4_sorts_88 : decode cX4_sorts 88 = .ok (.aaload, 1) := dk_50 (dk_at dksX4_sorts_3 16 rfl rfl)
theorem dX4_sorts_89 : decode cX4_sorts 89 = .ok (.iload 5, 2) := dk_21 5 (dk_at dksX4_sorts_3 17 rfl rfl)
theorem dX4_sorts_91 : decode cX4_sorts 91 = .ok (.iconst 3, 1) := dk_6 (dk_at dksX4_sorts_3 19 rfl rfl)
theorem dX4_sorts_92 : decode cX4_sorts 92 = .ok (.iadd, 1) := dk_96 (dk_at dksX4_sorts_3 20 rfl rfl)
theorem dX4_sorts_93 : decode cX4_sorts 93 = .ok (.laload, 1) := dk_47 (dk_at dksX4_sorts_3 21 rfl rfl)
theorem dX4_sorts_94 : decode cX4_sorts 94 = .ok (.invokevirtual 146, 3) := dk_182 0 146 (dk_at dksX4_sorts_4 0 rfl rfl)
theorem dX4_sorts_97 : decode cX4_sorts 97 = .ok (.ifCond .ge 6, 3) := dk_156 0 6 (dk_at dksX4_sorts_4 3 rfl rfl)
theorem dX4_sorts_100 : decode cX4_sorts 100 = .ok (.iload 4, 2) := dk_21 4 (dk_at dksX4_sorts_4 6 rfl rfl)
theorem dX4_sorts_102 : decode cX4_sorts 102 = .ok (.ireturn, 1) := dk_172 (dk_at dksX4_sorts_4 8 rfl rfl)
theorem dX4_sorts_103 : decode cX4_sorts 103 = .ok (.iinc 4 1, 3) := dk_132 4 1 (dk_at dksX4_sorts_4 9 rfl rfl)
theorem dX4_sorts_106 : decode cX4_sorts 106 = .ok (.iinc 5 4, 3) := dk_132 5 4 (dk_at dksX4_sorts_4 12 rfl rfl)
theorem dX4_sorts_109 : decode cX4_sorts 109 = .ok (.goto (-64), 3) := dk_167 255 192 (dk_at dksX4_sorts_4 15 rfl rfl)
theorem dX4_sorts_112 : decode cX4_sorts 112 = .ok (.iload 4, 2) := dk_21 4 (dk_at dksX4_sorts_4 18 rfl rfl)
theorem dX4_sorts_114 : decode cX4_sorts 114 = .ok (.ireturn, 1) := dk_172 (dk_at dksX4_sorts_4 20 rfl rfl)
abbrev cX4_noRow : ByteArray := prog_19_method_26_code
def yX4_noRow : MethodName := ⟨RX4, "noRow", "(I)I"⟩
def dkwX4_noRow_2 : List UInt8 := [182, 0, 110, 167, 0, 4, 3, 172]
abbrev dktX4_noRow_2 : List UInt8 := dkwX4_noRow_2 ++ []
def dkwX4_noRow_1 : List UInt8 := [46, 5, 160, 0, 10, 42, 16, 253, 182, 0, 110, 172, 42, 180, 0, 7, 27, 46, 154, 0, 12, 42, 16, 252]
abbrev dktX4_noRow_1 : List UInt8 := dkwX4_noRow_1 ++ dktX4_noRow_2
def dkwX4_noRow_0 : List UInt8 := [27, 133, 9, 20, 0, 104, 184, 0, 88, 154, 0, 10, 42, 16, 254, 182, 0, 110, 172, 42, 180, 0, 7, 27]
abbrev dktX4_noRow_0 : List UInt8 := dkwX4_noRow_0 ++ dktX4_noRow_1
theorem dksX4_noRow_0 : cX4_noRow.data.toList.drop 0 = dktX4_noRow_0 := by decide +kernel
theorem dksX4_noRow_1 : cX4_noRow.data.toList.drop 24 = dktX4_noRow_1 := dk_seg dksX4_noRow_0 24 rfl rfl
theorem dksX4_noRow_2 : cX4_noRow.data.toList.drop 48 = dktX4_noRow_2 := dk_seg dksX4_noRow_1 24 rfl rfl
theorem dX4_noRow_0 : decode cX4_noRow 0 = .ok (.iload_n 1, 1) := dk_27 (dk_at dksX4_noRow_0 0 rfl rfl)
theorem dX4_noRow_1 : decode cX4_noRow 1 = .ok (.i2l, 1) := dk_133 (dk_at dksX4_noRow_0 1 rfl rfl)
theorem dX4_noRow_2 : decode cX4_noRow 2 = .ok (.lconst 0, 1) := dk_9 (dk_at dksX4_noRow_0 2 rfl rfl)
theorem dX4_noRow_3 : decode cX4_noRow 3 = .ok (.ldc2_w 104, 3) := dk_20 0 104 (dk_at dksX4_noRow_0 3 rfl rfl)
theorem dX4_noRow_6 : decode cX4_noRow 6 = .ok (.invokestatic 88, 3) := dk_184 0 88 (dk_at dksX4_noRow_0 6 rfl rfl)
theorem dX4_noRow_9 : decode cX4_noRow 9 = .ok (.ifCond .ne 10, 3) := dk_154 0 10 (dk_at dksX4_noRow_0 9 rfl rfl)
theorem dX4_noRow_12 : decode cX4_noRow 12 = .ok (.aload_n 0, 1) := dk_42 (dk_at dksX4_noRow_0 12 rfl rfl)
theorem dX4_noRow_13 : decode cX4_noRow 13 = .ok (.bipush (-2), 2) := dk_16 254 (dk_at dksX4_noRow_0 13 rfl rfl)
theorem dX4_noRow_15 : decode cX4_noRow 15 = .ok (.invokevirtual 110, 3) := dk_182 0 110 (dk_at dksX4_noRow_0 15 rfl rfl)
theorem dX4_noRow_18 : decode cX4_noRow 18 = .ok (.ireturn, 1) := dk_172 (dk_at dksX4_noRow_0 18 rfl rfl)
theorem dX4_noRow_19 : decode cX4_noRow 19 = .ok (.aload_n 0, 1) := dk_42 (dk_at dksX4_noRow_0 19 rfl rfl)
theorem dX4_noRow_20 : decode cX4_noRow 20 = .ok (.getfield 7, 3) := dk_180 0 7 (dk_at dksX4_noRow_0 20 rfl rfl)
theorem dX4_noRow_23 : decode cX4_noRow 23 = .ok (.iload_n 1, 1) := dk_27 (dk_at dksX4_noRow_0 23 rfl rfl)
theorem dX4_noRow_24 : decode cX4_noRow 24 = .ok (.iaload, 1) := dk_46 (dk_at dksX4_noRow_1 0 rfl rfl)
theorem dX4_noRow_25 : decode cX4_noRow 25 = .ok (.iconst 2, 1) := dk_5 (dk_at dksX4_noRow_1 1 rfl rfl)
theorem dX4_noRow_26 : decode cX4_noRow 26 = .ok (.if_icmp .ne 10, 3) := dk_160 0 10 (dk_at dksX4_noRow_1 2 rfl rfl)
theorem dX4_noRow_29 : decode cX4_noRow 29 = .ok (.aload_n 0, 1) := dk_42 (dk_at dksX4_noRow_1 5 rfl rfl)
theorem dX4_noRow_30 : decode cX4_noRow 30 = .ok (.bipush (-3), 2) := dk_16 253 (dk_at dksX4_noRow_1 6 rfl rfl)
theorem dX4_noRow_32 : decode cX4_noRow 32 = .ok (.invokevirtual 110, 3) := dk_182 0 110 (dk_at dksX4_noRow_1 8 rfl rfl)
theorem dX4_noRow_35 : decode cX4_noRow 35 = .ok (.ireturn, 1) := dk_172 (dk_at dksX4_noRow_1 11 rfl rfl)
theorem dX4_noRow_36 : decode cX4_noRow 36 = .ok (.aload_n 0, 1) := dk_42 (dk_at dksX4_noRow_1 12 rfl rfl)
theorem dX4_noRow_37 : decode cX4_noRow 37 = .ok (.getfield 7, 3) := dk_180 0 7 (dk_at dksX4_noRow_1 13 rfl rfl)
theorem dX4_noRow_40 : decode cX4_noRow 40 = .ok (.iload_n 1, 1) := dk_27 (dk_at dksX4_noRow_1 16 rfl rfl)
theorem dX4_noRow_41 : decode cX4_noRow 41 = .ok (.iaload, 1) := dk_46 (dk_at dksX4_noRow_1 17 rfl rfl)
theorem dX4_noRow_42 : decode cX4_noRow 42 = .ok (.ifCond .ne 12, 3) := dk_154 0 12 (dk_at dksX4_noRow_1 18 rfl rfl)
theorem dX4_noRow_45 : decode cX4_noRow 45 = .ok (.aload_n 0, 1) := dk_42 (dk_at dksX4_noRow_1 21 rfl rfl)
theorem dX4_noRow_46 : decode cX4_noRow 46 = .ok (.bipush (-4), 2) := dk_16 252 (dk_at dksX4_noRow_1 22 rfl rfl)
theorem dX4_noRow_48 : decode cX4_noRow 48 = .ok (.invokevirtual 110, 3) := dk_182 0 110 (dk_at dksX4_noRow_2 0 rfl rfl)
theorem dX4_noRow_51 : decode cX4_noRow 51 = .ok (.goto 4, 3) := dk_167 0 4 (dk_at dksX4_noRow_2 3 rfl rfl)
theorem dX4_noRow_54 : decode cX4_noRow 54 = .ok (.iconst 0, 1) := dk_3 (dk_at dksX4_noRow_2 6 rfl rfl)
theorem dX4_noRow_55 : decode cX4_noRow 55 = .ok (.ireturn, 1) := dk_172 (dk_at dksX4_noRow_2 7 rfl rfl)
abbrev cX4_sortOf : ByteArray := prog_19_method_27_code
def yX4_sortOf : MethodName := ⟨RX4, "sortOf", "(II)I"⟩
def dkwX4_sortOf_1 : List UInt8 := [180, 0, 51, 27, 50, 28, 46, 167, 0, 9, 42, 16, 254, 182, 0, 110, 172]
abbrev dktX4_sortOf_1 : List UInt8 := dkwX4_sortOf_1 ++ []
def dkwX4_sortOf_0 : List UInt8 := [42, 27, 133, 182, 0, 153, 153, 0, 26, 28, 133, 9, 20, 0, 157, 184, 0, 88, 153, 0, 14, 42]
abbrev dktX4_sortOf_0 : List UInt8 := dkwX4_sortOf_0 ++ dktX4_sortOf_1
theorem dksX4_sortOf_0 : cX4_sortOf.data.toList.drop 0 = dktX4_sortOf_0 := by decide +kernel
theorem dksX4_sortOf_1 : cX4_sortOf.data.toList.drop 22 = dktX4_sortOf_1 := dk_seg dksX4_sortOf_0 22 rfl rfl
theorem dX4_sortOf_0 : decode cX4_sortOf 0 = .ok (.aload_n 0, 1) := dk_42 (dk_at dksX4_sortOf_0 0 rfl rfl)
theorem dX4_sortOf_1 : decode cX4_sortOf 1 = .ok (.iload_n 1, 1) := dk_27 (dk_at dksX4_sortOf_0 1 rfl rfl)
theorem dX4_sortOf_2 : decode cX4_sortOf 2 = .ok (.i2l, 1) := dk_133 (dk_at dksX4_sortOf_0 2 rfl rfl)
theorem dX4_sortOf_3 : decode cX4_sortOf 3 = .ok (.invokevirtual 153, 3) := dk_182 0 153 (dk_at dksX4_sortOf_0 3 rfl rfl)
theorem dX4_sortOf_6 : decode cX4_sortOf 6 = .ok (.ifCond .eq 26, 3) := dk_153 0 26 (dk_at dksX4_sortOf_0 6 rfl rfl)
theorem dX4_sortOf_9 : decode cX4_sortOf 9 = .ok (.iload_n 2, 1) := dk_28 (dk_at dksX4_sortOf_0 9 rfl rfl)
theorem dX4_sortOf_10 : decode cX4_sortOf 10 = .ok (.i2l, 1) := dk_133 (dk_at dksX4_sortOf_0 10 rfl rfl)
theorem dX4_sortOf_11 : decode cX4_sortOf 11 = .ok (.lconst 0, 1) := dk_9 (dk_at dksX4_sortOf_0 11 rfl rfl)
theorem dX4_sortOf_12 : decode cX4_sortOf 12 = .ok (.ldc2_w 157, 3) := dk_20 0 157 (dk_at dksX4_sortOf_0 12 rfl rfl)
theorem dX4_sortOf_15 : decode cX4_sortOf 15 = .ok (.invokestatic 88, 3) := dk_184 0 88 (dk_at dksX4_sortOf_0 15 rfl rfl)
theorem dX4_sortOf_18 : decode cX4_sortOf 18 = .ok (.ifCond .eq 14, 3) := dk_153 0 14 (dk_at dksX4_sortOf_0 18 rfl rfl)
theorem dX4_sortOf_21 : decode cX4_sortOf 21 = .ok (.aload_n 0, 1) := dk_42 (dk_at dksX4_sortOf_0 21 rfl rfl)
theorem dX4_sortOf_22 : decode cX4_sortOf 22 = .ok (.getfield 51, 3) := dk_180 0 51 (dk_at dksX4_sortOf_1 0 rfl rfl)
theorem dX4_sortOf_25 : decode cX4_sortOf 25 = .ok (.iload_n 1, 1) := dk_27 (dk_at dksX4_sortOf_1 3 rfl rfl)
theorem dX4_sortOf_26 : decode cX4_sortOf 26 = .ok (.aaload, 1) := dk_50 (dk_at dksX4_sortOf_1 4 rfl rfl)
theorem dX4_sortOf_27 : decode cX4_sortOf 27 = .ok (.iload_n 2, 1) := dk_28 (dk_at dksX4_sortOf_1 5 rfl rfl)
theorem dX4_sortOf_28 : decode cX4_sortOf 28 = .ok (.iaload, 1) := dk_46 (dk_at dksX4_sortOf_1 6 rfl rfl)
theorem dX4_sortOf_29 : decode cX4_sortOf 29 = .ok (.goto 9, 3) := dk_167 0 9 (dk_at dksX4_sortOf_1 7 rfl rfl)
theorem dX4_sortOf_32 : decode cX4_sortOf 32 = .ok (.aload_n 0, 1) := dk_42 (dk_at dksX4_sortOf_1 10 rfl rfl)
theorem dX4_sortOf_33 : decode cX4_sortOf 33 = .ok (.bipush (-2), 2) := dk_16 254 (dk_at dksX4_sortOf_1 11 rfl rfl)
theorem dX4_sortOf_35 : decode cX4_sortOf 35 = .ok (.invokevirtual 110, 3) := dk_182 0 110 (dk_at dksX4_sortOf_1 13 rfl rfl)
theorem dX4_sortOf_38 : decode cX4_sortOf 38 = .ok (.ireturn, 1) := dk_172 (dk_at dksX4_sortOf_1 16 rfl rfl)
abbrev cX4_isSort : ByteArray := prog_19_method_4_code
def yX4_isSort : MethodName := ⟨RX4, "isSort", "(J)Z"⟩
def dkwX4_isSort_0 : List UInt8 := [31, 9, 42, 180, 0, 85, 4, 100, 133, 184, 0, 88, 172]
abbrev dktX4_isSort_0 : List UInt8 := dkwX4_isSort_0 ++ []
theorem dksX4_isSort_0 : cX4_isSort.data.toList.drop 0 = dktX4_isSort_0 := by decide +kernel
theorem dX4_isSort_0 : decode cX4_isSort 0 = .ok (.lload_n 1, 1) := dk_31 (dk_at dksX4_isSort_0 0 rfl rfl)
theorem dX4_isSort_1 : decode cX4_isSort 1 = .ok (.lconst 0, 1) := dk_9 (dk_at dksX4_isSort_0 1 rfl rfl)
theorem dX4_isSort_2 : decode cX4_isSort 2 = .ok (.aload_n 0, 1) := dk_42 (dk_at dksX4_isSort_0 2 rfl rfl)
theorem dX4_isSort_3 : decode cX4_isSort 3 = .ok (.getfield 85, 3) := dk_180 0 85 (dk_at dksX4_isSort_0 3 rfl rfl)
theorem dX4_isSort_6 : decode cX4_isSort 6 = .ok (.iconst 1, 1) := dk_4 (dk_at dksX4_isSort_0 6 rfl rfl)
theorem dX4_isSort_7 : decode cX4_isSort 7 = .ok (.isub, 1) := dk_100 (dk_at dksX4_isSort_0 7 rfl rfl)
theorem dX4_isSort_8 : decode cX4_isSort 8 = .ok (.i2l, 1) := dk_133 (dk_at dksX4_isSort_0 8 rfl rfl)
theorem dX4_isSort_9 : decode cX4_isSort 9 = .ok (.invokestatic 88, 3) := dk_184 0 88 (dk_at dksX4_isSort_0 9 rfl rfl)
theorem dX4_isSort_12 : decode cX4_isSort 12 = .ok (.ireturn, 1) := dk_172 (dk_at dksX4_isSort_0 12 rfl rfl)
abbrev cX4_ask : ByteArray := prog_19_method_28_code
def yX4_ask : MethodName := ⟨RX4, "ask", "(II)I"⟩
def dkwX4_ask_2 : List UInt8 := [180, 0, 54, 27, 28, 79, 29, 172]
abbrev dktX4_ask_2 : List UInt8 := dkwX4_ask_2 ++ []
def dkwX4_ask_1 : List UInt8 := [20, 0, 120, 184, 0, 88, 154, 0, 10, 42, 16, 254, 182, 0, 110, 172, 42, 180, 0, 54, 27, 46, 62, 42]
abbrev dktX4_ask_1 : List UInt8 := dkwX4_ask_1 ++ dktX4_ask_2
def dkwX4_ask_0 : List UInt8 := [27, 133, 9, 10, 184, 0, 88, 153, 0, 25, 28, 133, 9, 27, 154, 0, 9, 20, 0, 139, 167, 0, 6]
abbrev dktX4_ask_0 : List UInt8 := dkwX4_ask_0 ++ dktX4_ask_1
theorem dksX4_ask_0 : cX4_ask.data.toList.drop 0 = dktX4_ask_0 := by decide +kernel
theorem dksX4_ask_1 : cX4_ask.data.toList.drop 23 = dktX4_ask_1 := dk_seg dksX4_ask_0 23 rfl rfl
theorem dksX4_ask_2 : cX4_ask.data.toList.drop 47 = dktX4_ask_2 := dk_seg dksX4_ask_1 24 rfl rfl
theorem dX4_ask_0 : decode cX4_ask 0 = .ok (.iload_n 1, 1) := dk_27 (dk_at dksX4_ask_0 0 rfl rfl)
theorem dX4_ask_1 : decode cX4_ask 1 = .ok (.i2l, 1) := dk_133 (dk_at dksX4_ask_0 1 rfl rfl)
theorem dX4_ask_2 : decode cX4_ask 2 = .ok (.lconst 0, 1) := dk_9 (dk_at dksX4_ask_0 2 rfl rfl)
theorem dX4_ask_3 : decode cX4_ask 3 = .ok (.lconst 1, 1) := dk_10 (dk_at dksX4_ask_0 3 rfl rfl)
theorem dX4_ask_4 : decode cX4_ask 4 = .ok (.invokestatic 88, 3) := dk_184 0 88 (dk_at dksX4_ask_0 4 rfl rfl)
theorem dX4_ask_7 : decode cX4_ask 7 = .ok (.ifCond .eq 25, 3) := dk_153 0 25 (dk_at dksX4_ask_0 7 rfl rfl)
theorem dX4_ask_10 : decode cX4_ask 10 = .ok (.iload_n 2, 1) := dk_28 (dk_at dksX4_ask_0 10 rfl rfl)
theorem dX4_ask_11 : decode cX4_ask 11 = .ok (.i2l, 1) := dk_133 (dk_at dksX4_ask_0 11 rfl rfl)
theorem dX4_ask_12 : decode cX4_ask 12 = .ok (.lconst 0, 1) := dk_9 (dk_at dksX4_ask_0 12 rfl rfl)
theorem dX4_ask_13 : decode cX4_ask 13 = .ok (.iload_n 1, 1) := dk_27 (dk_at dksX4_ask_0 13 rfl rfl)
theorem dX4_ask_14 : decode cX4_ask 14 = .ok (.ifCond .ne 9, 3) := dk_154 0 9 (dk_at dksX4_ask_0 14 rfl rfl)
theorem dX4_ask_17 : decode cX4_ask 17 = .ok (.ldc2_w 139, 3) := dk_20 0 139 (dk_at dksX4_ask_0 17 rfl rfl)
theorem dX4_ask_20 : decode cX4_ask 20 = .ok (.goto 6, 3) := dk_167 0 6 (dk_at dksX4_ask_0 20 rfl rfl)
theorem dX4_ask_23 : decode cX4_ask 23 = .ok (.ldc2_w 120, 3) := dk_20 0 120 (dk_at dksX4_ask_1 0 rfl rfl)
theorem dX4_ask_26 : decode cX4_ask 26 = .ok (.invokestatic 88, 3) := dk_184 0 88 (dk_at dksX4_ask_1 3 rfl rfl)
theorem dX4_ask_29 : decode cX4_ask 29 = .ok (.ifCond .ne 10, 3) := dk_154 0 10 (dk_at dksX4_ask_1 6 rfl rfl)
theorem dX4_ask_32 : decode cX4_ask 32 = .ok (.aload_n 0, 1) := dk_42 (dk_at dksX4_ask_1 9 rfl rfl)
theorem dX4_ask_33 : decode cX4_ask 33 = .ok (.bipush (-2), 2) := dk_16 254 (dk_at dksX4_ask_1 10 rfl rfl)
theorem dX4_ask_35 : decode cX4_ask 35 = .ok (.invokevirtual 110, 3) := dk_182 0 110 (dk_at dksX4_ask_1 12 rfl rfl)
theorem dX4_ask_38 : decode cX4_ask 38 = .ok (.ireturn, 1) := dk_172 (dk_at dksX4_ask_1 15 rfl rfl)
theorem dX4_ask_39 : decode cX4_ask 39 = .ok (.aload_n 0, 1) := dk_42 (dk_at dksX4_ask_1 16 rfl rfl)
theorem dX4_ask_40 : decode cX4_ask 40 = .ok (.getfield 54, 3) := dk_180 0 54 (dk_at dksX4_ask_1 17 rfl rfl)
theorem dX4_ask_43 : decode cX4_ask 43 = .ok (.iload_n 1, 1) := dk_27 (dk_at dksX4_ask_1 20 rfl rfl)
theorem dX4_ask_44 : decode cX4_ask 44 = .ok (.iaload, 1) := dk_46 (dk_at dksX4_ask_1 21 rfl rfl)
theorem dX4_ask_45 : decode cX4_ask 45 = .ok (.istore_n 3, 1) := dk_62 (dk_at dksX4_ask_1 22 rfl rfl)
theorem dX4_ask_46 : decode cX4_ask 46 = .ok (.aload_n 0, 1) := dk_42 (dk_at dksX4_ask_1 23 rfl rfl)
theorem dX4_ask_47 : decode cX4_ask 47 = .ok (.getfield 54, 3) := dk_180 0 54 (dk_at dksX4_ask_2 0 rfl rfl)
theorem dX4_ask_50 : decode cX4_ask 50 = .ok (.iload_n 1, 1) := dk_27 (dk_at dksX4_ask_2 3 rfl rfl)
theorem dX4_ask_51 : decode cX4_ask 51 = .ok (.iload_n 2, 1) := dk_28 (dk_at dksX4_ask_2 4 rfl rfl)
theorem dX4_ask_52 : decode cX4_ask 52 = .ok (.iastore, 1) := dk_79 (dk_at dksX4_ask_2 5 rfl rfl)
theorem dX4_ask_53 : decode cX4_ask 53 = .ok (.iload_n 3, 1) := dk_29 (dk_at dksX4_ask_2 6 rfl rfl)
theorem dX4_ask_54 : decode cX4_ask 54 = .ok (.ireturn, 1) := dk_172 (dk_at dksX4_ask_2 7 rfl rfl)
abbrev cX4_feed : ByteArray := prog_19_method_29_code
def yX4_feed : MethodName := ⟨RX4, "feed", "(II)I"⟩
def dkwX4_feed_3 : List UInt8 := [79, 132, 3, 255, 167, 255, 223, 42, 180, 0, 159, 172]
abbrev dktX4_feed_3 : List UInt8 := dkwX4_feed_3 ++ []
def dkwX4_feed_2 : List UInt8 := [180, 0, 34, 42, 89, 180, 0, 159, 90, 4, 96, 181, 0, 159, 27, 16, 8, 29, 104, 122, 17, 0, 255, 126]
abbrev dktX4_feed_2 : List UInt8 := dkwX4_feed_2 ++ dktX4_feed_3
def dkwX4_feed_1 : List UInt8 := [180, 0, 159, 100, 164, 0, 10, 42, 16, 250, 182, 0, 110, 172, 28, 4, 100, 62, 29, 155, 0, 35, 42]
abbrev dktX4_feed_1 : List UInt8 := dkwX4_feed_1 ++ dktX4_feed_2
def dkwX4_feed_0 : List UInt8 := [28, 133, 10, 20, 0, 106, 184, 0, 88, 154, 0, 10, 42, 16, 254, 182, 0, 110, 172, 28, 17, 0, 200, 42]
abbrev dktX4_feed_0 : List UInt8 := dkwX4_feed_0 ++ dktX4_feed_1
theorem dksX4_feed_0 : cX4_feed.data.toList.drop 0 = dktX4_feed_0 := by decide +kernel
theorem dksX4_feed_1 : cX4_feed.data.toList.drop 24 = dktX4_feed_1 := dk_seg dksX4_feed_0 24 rfl rfl
theorem dksX4_feed_2 : cX4_feed.data.toList.drop 47 = dktX4_feed_2 := dk_seg dksX4_feed_1 23 rfl rfl
theorem dksX4_feed_3 : cX4_feed.data.toList.drop 71 = dktX4_feed_3 := dk_seg dksX4_feed_2 24 rfl rfl
theorem dX4_feed_0 : decode cX4_feed 0 = .ok (.iload_n 2, 1) := dk_28 (dk_at dksX4_feed_0 0 rfl rfl)
theorem dX4_feed_1 : decode cX4_feed 1 = .ok (.i2l, 1) := dk_133 (dk_at dksX4_feed_0 1 rfl rfl)
theorem dX4_feed_2 : decode cX4_feed 2 = .ok (.lconst 1, 1) := dk_10 (dk_at dksX4_feed_0 2 rfl rfl)
theorem dX4_feed_3 : decode cX4_feed 3 = .ok (.ldc2_w 106, 3) := dk_20 0 106 (dk_at dksX4_feed_0 3 rfl rfl)
theorem dX4_feed_6 : decode cX4_feed 6 = .ok (.invokestatic 88, 3) := dk_184 0 88 (dk_at dksX4_feed_0 6 rfl rfl)
theorem dX4_feed_9 : decode cX4_feed 9 = .ok (.ifCond .ne 10, 3) := dk_154 0 10 (dk_at dksX4_feed_0 9 rfl rfl)
theorem dX4_feed_12 : decode cX4_feed 12 = .ok (.aload_n 0, 1) := dk_42 (dk_at dksX4_feed_0 12 rfl rfl)
theorem dX4_feed_13 : decode cX4_feed 13 = .ok (.bipush (-2), 2) := dk_16 254 (dk_at dksX4_feed_0 13 rfl rfl)
theorem dX4_feed_15 : decode cX4_feed 15 = .ok (.invokevirtual 110, 3) := dk_182 0 110 (dk_at dksX4_feed_0 15 rfl rfl)
theorem dX4_feed_18 : decode cX4_feed 18 = .ok (.ireturn, 1) := dk_172 (dk_at dksX4_feed_0 18 rfl rfl)
theorem dX4_feed_19 : decode cX4_feed 19 = .ok (.iload_n 2, 1) := dk_28 (dk_at dksX4_feed_0 19 rfl rfl)
theorem dX4_feed_20 : decode cX4_feed 20 = .ok (.sipush 200, 3) := dk_17 0 200 (dk_at dksX4_feed_0 20 rfl rfl)
theorem dX4_feed_23 : decode cX4_feed 23 = .ok (.aload_n 0, 1) := dk_42 (dk_at dksX4_feed_0 23 rfl rfl)
theorem dX4_feed_24 : decode cX4_feed 24 = .ok (.getfield 159, 3) := dk_180 0 159 (dk_at dksX4_feed_1 0 rfl rfl)
theorem dX4_feed_27 : decode cX4_feed 27 = .ok (.isub, 1) := dk_100 (dk_at dksX4_feed_1 3 rfl rfl)
theorem dX4_feed_28 : decode cX4_feed 28 = .ok (.if_icmp .le 10, 3) := dk_164 0 10 (dk_at dksX4_feed_1 4 rfl rfl)
theorem dX4_feed_31 : decode cX4_feed 31 = .ok (.aload_n 0, 1) := dk_42 (dk_at dksX4_feed_1 7 rfl rfl)
theorem dX4_feed_32 : decode cX4_feed 32 = .ok (.bipush (-6), 2) := dk_16 250 (dk_at dksX4_feed_1 8 rfl rfl)
theorem dX4_feed_34 : decode cX4_feed 34 = .ok (.invokevirtual 110, 3) := dk_182 0 110 (dk_at dksX4_feed_1 10 rfl rfl)
theorem dX4_feed_37 : decode cX4_feed 37 = .ok (.ireturn, 1) := dk_172 (dk_at dksX4_feed_1 13 rfl rfl)
theorem dX4_feed_38 : decode cX4_feed 38 = .ok (.iload_n 2, 1) := dk_28 (dk_at dksX4_feed_1 14 rfl rfl)
theorem dX4_feed_39 : decode cX4_feed 39 = .ok (.iconst 1, 1) := dk_4 (dk_at dksX4_feed_1 15 rfl rfl)
theorem dX4_feed_40 : decode cX4_feed 40 = .ok (.isub, 1) := dk_100 (dk_at dksX4_feed_1 16 rfl rfl)
theorem dX4_feed_41 : decode cX4_feed 41 = .ok (.istore_n 3, 1) := dk_62 (dk_at dksX4_feed_1 17 rfl rfl)
theorem dX4_feed_42 : decode cX4_feed 42 = .ok (.iload_n 3, 1) := dk_29 (dk_at dksX4_feed_1 18 rfl rfl)
theorem dX4_feed_43 : decode cX4_feed 43 = .ok (.ifCond .lt 35, 3) := dk_155 0 35 (dk_at dksX4_feed_1 19 rfl rfl)
theorem dX4_feed_46 : decode cX4_feed 46 = .ok (.aload_n 0, 1) := dk_42 (dk_at dksX4_feed_1 22 rfl rfl)
theorem dX4_feed_47 : decode cX4_feed 47 = .ok (.getfield 34, 3) := dk_180 0 34 (dk_at dksX4_feed_2 0 rfl rfl)
theorem dX4_feed_50 : decode cX4_feed 50 = .ok (.aload_n 0, 1) := dk_42 (dk_at dksX4_feed_2 3 rfl rfl)
theorem dX4_feed_51 : decode cX4_feed 51 = .ok (.dup, 1) := dk_89 (dk_at dksX4_feed_2 4 rfl rfl)
theorem dX4_feed_52 : decode cX4_feed 52 = .ok (.getfield 159, 3) := dk_180 0 159 (dk_at dksX4_feed_2 5 rfl rfl)
theorem dX4_feed_55 : decode cX4_feed 55 = .ok (.dup_x1, 1) := dk_90 (dk_at dksX4_feed_2 8 rfl rfl)
theorem dX4_feed_56 : decode cX4_feed 56 = .ok (.iconst 1, 1) := dk_4 (dk_at dksX4_feed_2 9 rfl rfl)
theorem dX4_feed_57 : decode cX4_feed 57 = .ok (.iadd, 1) := dk_96 (dk_at dksX4_feed_2 10 rfl rfl)
theorem dX4_feed_58 : decode cX4_feed 58 = .ok (.putfield 159, 3) := dk_181 0 159 (dk_at dksX4_feed_2 11 rfl rfl)
theorem dX4_feed_61 : decode cX4_feed 61 = .ok (.iload_n 1, 1) := dk_27 (dk_at dksX4_feed_2 14 rfl rfl)
theorem dX4_feed_62 : decode cX4_feed 62 = .ok (.bipush 8, 2) := dk_16 8 (dk_at dksX4_feed_2 15 rfl rfl)
theorem dX4_feed_64 : decode cX4_feed 64 = .ok (.iload_n 3, 1) := dk_29 (dk_at dksX4_feed_2 17 rfl rfl)
theorem dX4_feed_65 : decode cX4_feed 65 = .ok (.imul, 1) := dk_104 (dk_at dksX4_feed_2 18 rfl rfl)
theorem dX4_feed_66 : decode cX4_feed 66 = .ok (.ishr, 1) := dk_122 (dk_at dksX4_feed_2 19 rfl rfl)
theorem dX4_feed_67 : decode cX4_feed 67 = .ok (.sipush 255, 3) := dk_17 0 255 (dk_at dksX4_feed_2 20 rfl rfl)
theorem dX4_feed_70 : decode cX4_feed 70 = .ok (.iand, 1) := dk_126 (dk_at dksX4_feed_2 23 rfl rfl)
theorem dX4_feed_71 : decode cX4_feed 71 = .ok (.iastore, 1) := dk_79 (dk_at dksX4_feed_3 0 rfl rfl)
theorem dX4_feed_72 : decode cX4_feed 72 = .ok (.iinc 3 (-1), 3) := dk_132 3 255 (dk_at dksX4_feed_3 1 rfl rfl)
theorem dX4_feed_75 : decode cX4_feed 75 = .ok (.goto (-33), 3) := dk_167 255 223 (dk_at dksX4_feed_3 4 rfl rfl)
theorem dX4_feed_78 : decode cX4_feed 78 = .ok (.aload_n 0, 1) := dk_42 (dk_at dksX4_feed_3 7 rfl rfl)
theorem dX4_feed_79 : decode cX4_feed 79 = .ok (.getfield 159, 3) := dk_180 0 159 (dk_at dksX4_feed_3 8 rfl rfl)
theorem dX4_feed_82 : decode cX4_feed 82 = .ok (.ireturn, 1) := dk_172 (dk_at dksX4_feed_3 11 rfl rfl)
abbrev cX4_wipe : ByteArray := prog_19_method_30_code
def yX4_wipe : MethodName := ⟨RX4, "wipe", "()I"⟩
def dkwX4_wipe_0 : List UInt8 := [42, 180, 0, 159, 60, 42, 3, 181, 0, 159, 27, 172]
abbrev dktX4_wipe_0 : List UInt8 := dkwX4_wipe_0 ++ []
theorem dksX4_wipe_0 : cX4_wipe.data.toList.drop 0 = dktX4_wipe_0 := by decide +kernel
theorem dX4_wipe_0 : decode cX4_wipe 0 = .ok (.aload_n 0, 1) := dk_42 (dk_at dksX4_wipe_0 0 rfl rfl)
theorem dX4_wipe_1 : decode cX4_wipe 1 = .ok (.getfield 159, 3) := dk_180 0 159 (dk_at dksX4_wipe_0 1 rfl rfl)
theorem dX4_wipe_4 : decode cX4_wipe 4 = .ok (.istore_n 1, 1) := dk_60 (dk_at dksX4_wipe_0 4 rfl rfl)
theorem dX4_wipe_5 : decode cX4_wipe 5 = .ok (.aload_n 0, 1) := dk_42 (dk_at dksX4_wipe_0 5 rfl rfl)
theorem dX4_wipe_6 : decode cX4_wipe 6 = .ok (.iconst 0, 1) := dk_3 (dk_at dksX4_wipe_0 6 rfl rfl)
theorem dX4_wipe_7 : decode cX4_wipe 7 = .ok (.putfield 159, 3) := dk_181 0 159 (dk_at dksX4_wipe_0 7 rfl rfl)
theorem dX4_wipe_10 : decode cX4_wipe 10 = .ok (.iload_n 1, 1) := dk_27 (dk_at dksX4_wipe_0 10 rfl rfl)
theorem dX4_wipe_11 : decode cX4_wipe 11 = .ok (.ireturn, 1) := dk_172 (dk_at dksX4_wipe_0 11 rfl rfl)
abbrev cX4_wall : ByteArray := prog_19_method_41_code
def yX4_wall : MethodName := ⟨RX4, "wall", "()I"⟩
def dkwX4_wall_1 : List UInt8 := [42, 16, 254, 182, 0, 110, 87, 16, 236, 42, 180, 0, 186, 100, 172, 42, 180, 0, 233, 172]
abbrev dktX4_wall_1 : List UInt8 := dkwX4_wall_1 ++ []
def dkwX4_wall_0 : List UInt8 := [42, 182, 0, 239, 76, 42, 182, 0, 243, 61, 42, 3, 181, 0, 159, 28, 154, 0, 23, 42, 43, 182, 0, 246]
abbrev dktX4_wall_0 : List UInt8 := dkwX4_wall_0 ++ dktX4_wall_1
theorem dksX4_wall_0 : cX4_wall.data.toList.drop 0 = dktX4_wall_0 := by decide +kernel
theorem dksX4_wall_1 : cX4_wall.data.toList.drop 24 = dktX4_wall_1 := dk_seg dksX4_wall_0 24 rfl rfl
theorem dX4_wall_0 : decode cX4_wall 0 = .ok (.aload_n 0, 1) := dk_42 (dk_at dksX4_wall_0 0 rfl rfl)
theorem dX4_wall_1 : decode cX4_wall 1 = .ok (.invokevirtual 239, 3) := dk_182 0 239 (dk_at dksX4_wall_0 1 rfl rfl)
theorem dX4_wall_4 : decode cX4_wall 4 = .ok (.astore_n 1, 1) := dk_76 (dk_at dksX4_wall_0 4 rfl rfl)
theorem dX4_wall_5 : decode cX4_wall 5 = .ok (.aload_n 0, 1) := dk_42 (dk_at dksX4_wall_0 5 rfl rfl)
theorem dX4_wall_6 : decode cX4_wall 6 = .ok (.invokevirtual 243, 3) := dk_182 0 243 (dk_at dksX4_wall_0 6 rfl rfl)
theorem dX4_wall_9 : decode cX4_wall 9 = .ok (.istore_n 2, 1) := dk_61 (dk_at dksX4_wall_0 9 rfl rfl)
theorem dX4_wall_10 : decode cX4_wall 10 = .ok (.aload_n 0, 1) := dk_42 (dk_at dksX4_wall_0 10 rfl rfl)
theorem dX4_wall_11 : decode cX4_wall 11 = .ok (.iconst 0, 1) := dk_3 (dk_at dksX4_wall_0 11 rfl rfl)
theorem dX4_wall_12 : decode cX4_wall 12 = .ok (.putfield 159, 3) := dk_181 0 159 (dk_at dksX4_wall_0 12 rfl rfl)
theorem dX4_wall_15 : decode cX4_wall 15 = .ok (.iload_n 2, 1) := dk_28 (dk_at dksX4_wall_0 15 rfl rfl)
theorem dX4_wall_16 : decode cX4_wall 16 = .ok (.ifCond .ne 23, 3) := dk_154 0 23 (dk_at dksX4_wall_0 16 rfl rfl)
theorem dX4_wall_19 : decode cX4_wall 19 = .ok (.aload_n 0, 1) := dk_42 (dk_at dksX4_wall_0 19 rfl rfl)
theorem dX4_wall_20 : decode cX4_wall 20 = .ok (.aload_n 1, 1) := dk_43 (dk_at dksX4_wall_0 20 rfl rfl)
theorem dX4_wall_21 : decode cX4_wall 21 = .ok (.invokevirtual 246, 3) := dk_182 0 246 (dk_at dksX4_wall_0 21 rfl rfl)
theorem dX4_wall_24 : decode cX4_wall 24 = .ok (.aload_n 0, 1) := dk_42 (dk_at dksX4_wall_1 0 rfl rfl)
theorem dX4_wall_25 : decode cX4_wall 25 = .ok (.bipush (-2), 2) := dk_16 254 (dk_at dksX4_wall_1 1 rfl rfl)
theorem dX4_wall_27 : decode cX4_wall 27 = .ok (.invokevirtual 110, 3) := dk_182 0 110 (dk_at dksX4_wall_1 3 rfl rfl)
theorem dX4_wall_30 : decode cX4_wall 30 = .ok (.pop, 1) := dk_87 (dk_at dksX4_wall_1 6 rfl rfl)
theorem dX4_wall_31 : decode cX4_wall 31 = .ok (.bipush (-20), 2) := dk_16 236 (dk_at dksX4_wall_1 7 rfl rfl)
theorem dX4_wall_33 : decode cX4_wall 33 = .ok (.aload_n 0, 1) := dk_42 (dk_at dksX4_wall_1 9 rfl rfl)
theorem dX4_wall_34 : decode cX4_wall 34 = .ok (.getfield 186, 3) := dk_180 0 186 (dk_at dksX4_wall_1 10 rfl rfl)
theorem dX4_wall_37 : decode cX4_wall 37 = .ok (.isub, 1) := dk_100 (dk_at dksX4_wall_1 13 rfl rfl)
theorem dX4_wall_38 : decode cX4_wall 38 = .ok (.ireturn, 1) := dk_172 (dk_at dksX4_wall_1 14 rfl rfl)
theorem dX4_wall_39 : decode cX4_wall 39 = .ok (.aload_n 0, 1) := dk_42 (dk_at dksX4_wall_1 15 rfl rfl)
theorem dX4_wall_40 : decode cX4_wall 40 = .ok (.getfield 233, 3) := dk_180 0 233 (dk_at dksX4_wall_1 16 rfl rfl)
theorem dX4_wall_43 : decode cX4_wall 43 = .ok (.ireturn, 1) := dk_172 (dk_at dksX4_wall_1 19 rfl rfl)
abbrev cX4_fresh : ByteArray := prog_19_method_71_code
def yX4_fresh : MethodName := ⟨RX4, "fresh", "()LThreeSizesModel;"⟩
def dkwX4_fresh_1 : List UInt8 := [182, 0, 246, 42, 180, 1, 87, 176]
abbrev dktX4_fresh_1 : List UInt8 := dkwX4_fresh_1 ++ []
def dkwX4_fresh_0 : List UInt8 := [42, 180, 1, 87, 199, 0, 14, 42, 187, 0, 8, 89, 183, 1, 91, 181, 1, 87, 42, 180, 1, 87, 42]
abbrev dktX4_fresh_0 : List UInt8 := dkwX4_fresh_0 ++ dktX4_fresh_1
theorem dksX4_fresh_0 : cX4_fresh.data.toList.drop 0 = dktX4_fresh_0 := by decide +kernel
theorem dksX4_fresh_1 : cX4_fresh.data.toList.drop 23 = dktX4_fresh_1 := dk_seg dksX4_fresh_0 23 rfl rfl
theorem dX4_fresh_0 : decode cX4_fresh 0 = .ok (.aload_n 0, 1) := dk_42 (dk_at dksX4_fresh_0 0 rfl rfl)
theorem dX4_fresh_1 : decode cX4_fresh 1 = .ok (.getfield 343, 3) := dk_180 1 87 (dk_at dksX4_fresh_0 1 rfl rfl)
theorem dX4_fresh_4 : decode cX4_fresh 4 = .ok (.ifnonnull 14, 3) := dk_199 0 14 (dk_at dksX4_fresh_0 4 rfl rfl)
theorem dX4_fresh_7 : decode cX4_fresh 7 = .ok (.aload_n 0, 1) := dk_42 (dk_at dksX4_fresh_0 7 rfl rfl)
theorem dX4_fresh_8 : decode cX4_fresh 8 = .ok (.new 8, 3) := dk_187 0 8 (dk_at dksX4_fresh_0 8 rfl rfl)
theorem dX4_fresh_11 : decode cX4_fresh 11 = .ok (.dup, 1) := dk_89 (dk_at dksX4_fresh_0 11 rfl rfl)
theorem dX4_fresh_12 : decode cX4_fresh 12 = .ok (.invokespecial 347, 3) := dk_183 1 91 (dk_at dksX4_fresh_0 12 rfl rfl)
theorem dX4_fresh_15 : decode cX4_fresh 15 = .ok (.putfield 343, 3) := dk_181 1 87 (dk_at dksX4_fresh_0 15 rfl rfl)
theorem dX4_fresh_18 : decode cX4_fresh 18 = .ok (.aload_n 0, 1) := dk_42 (dk_at dksX4_fresh_0 18 rfl rfl)
theorem dX4_fresh_19 : decode cX4_fresh 19 = .ok (.getfield 343, 3) := dk_180 1 87 (dk_at dksX4_fresh_0 19 rfl rfl)
theorem dX4_fresh_22 : decode cX4_fresh 22 = .ok (.aload_n 0, 1) := dk_42 (dk_at dksX4_fresh_0 22 rfl rfl)
theorem dX4_fresh_23 : decode cX4_fresh 23 = .ok (.invokevirtual 246, 3) := dk_182 0 246 (dk_at dksX4_fresh_1 0 rfl rfl)
theorem dX4_fresh_26 : decode cX4_fresh 26 = .ok (.aload_n 0, 1) := dk_42 (dk_at dksX4_fresh_1 3 rfl rfl)
theorem dX4_fresh_27 : decode cX4_fresh 27 = .ok (.getfield 343, 3) := dk_180 1 87 (dk_at dksX4_fresh_1 4 rfl rfl)
theorem dX4_fresh_30 : decode cX4_fresh 30 = .ok (.areturn, 1) := dk_176 (dk_at dksX4_fresh_1 7 rfl rfl)
abbrev cX4_takeFrom : ByteArray := prog_19_method_91_code
def yX4_takeFrom : MethodName := ⟨RX4, "takeFrom", "(LThreeSizesModel;)V"⟩
def dkwX4_takeFrom_4 : List UInt8 := [180, 0, 60, 181, 0, 60, 177]
abbrev dktX4_takeFrom_4 : List UInt8 := dkwX4_takeFrom_4 ++ []
def dkwX4_takeFrom_3 : List UInt8 := [43, 180, 0, 54, 42, 180, 0, 54, 184, 1, 58, 43, 180, 0, 57, 42, 180, 0, 57, 184, 1, 58, 42, 43]
abbrev dktX4_takeFrom_3 : List UInt8 := dkwX4_takeFrom_3 ++ dktX4_takeFrom_4
def dkwX4_takeFrom_2 : List UInt8 := [162, 0, 24, 43, 180, 0, 51, 28, 50, 42, 180, 0, 51, 28, 50, 184, 1, 58, 132, 2, 1, 167, 255, 232]
abbrev dktX4_takeFrom_2 : List UInt8 := dkwX4_takeFrom_2 ++ dktX4_takeFrom_3
def dkwX4_takeFrom_1 : List UInt8 := [180, 0, 46, 42, 180, 0, 46, 184, 1, 58, 42, 43, 180, 0, 85, 181, 0, 85, 3, 61, 28, 16, 6]
abbrev dktX4_takeFrom_1 : List UInt8 := dkwX4_takeFrom_1 ++ dktX4_takeFrom_2
def dkwX4_takeFrom_0 : List UInt8 := [43, 180, 0, 40, 42, 180, 0, 40, 184, 1, 58, 43, 180, 0, 43, 42, 180, 0, 43, 184, 1, 58, 43]
abbrev dktX4_takeFrom_0 : List UInt8 := dkwX4_takeFrom_0 ++ dktX4_takeFrom_1
theorem dksX4_takeFrom_0 : cX4_takeFrom.data.toList.drop 0 = dktX4_takeFrom_0 := by decide +kernel
theorem dksX4_takeFrom_1 : cX4_takeFrom.data.toList.drop 23 = dktX4_takeFrom_1 := dk_seg dksX4_takeFrom_0 23 rfl rfl
theorem dksX4_takeFrom_2 : cX4_takeFrom.data.toList.drop 46 = dktX4_takeFrom_2 := dk_seg dksX4_takeFrom_1 23 rfl rfl
theorem dksX4_takeFrom_3 : cX4_takeFrom.data.toList.drop 70 = dktX4_takeFrom_3 := dk_seg dksX4_takeFrom_2 24 rfl rfl
theorem dksX4_takeFrom_4 : cX4_takeFrom.data.toList.drop 94 = dktX4_takeFrom_4 := dk_seg dksX4_takeFrom_3 24 rfl rfl
theorem dX4_takeFrom_0 : decode cX4_takeFrom 0 = .ok (.aload_n 1, 1) := dk_43 (dk_at dksX4_takeFrom_0 0 rfl rfl)
theorem dX4_takeFrom_1 : decode cX4_takeFrom 1 = .ok (.getfield 40, 3) := dk_180 0 40 (dk_at dksX4_takeFrom_0 1 rfl rfl)
theorem dX4_takeFrom_4 : decode cX4_takeFrom 4 = .ok (.aload_n 0, 1) := dk_42 (dk_at dksX4_takeFrom_0 4 rfl rfl)
theorem dX4_takeFrom_5 : decode cX4_takeFrom 5 = .ok (.getfield 40, 3) := dk_180 0 40 (dk_at dksX4_takeFrom_0 5 rfl rfl)
theorem dX4_takeFrom_8 : decode cX4_takeFrom 8 = .ok (.invokestatic 314, 3) := dk_184 1 58 (dk_at dksX4_takeFrom_0 8 rfl rfl)
theorem dX4_takeFrom_11 : decode cX4_takeFrom 11 = .ok (.aload_n 1, 1) := dk_43 (dk_at dksX4_takeFrom_0 11 rfl rfl)
theorem dX4_takeFrom_12 : decode cX4_takeFrom 12 = .ok (.getfield 43, 3) := dk_180 0 43 (dk_at dksX4_takeFrom_0 12 rfl rfl)
theorem dX4_takeFrom_15 : decode cX4_takeFrom 15 = .ok (.aload_n 0, 1) := dk_42 (dk_at dksX4_takeFrom_0 15 rfl rfl)
theorem dX4_takeFrom_16 : decode cX4_takeFrom 16 = .ok (.getfield 43, 3) := dk_180 0 43 (dk_at dksX4_takeFrom_0 16 rfl rfl)
theorem dX4_takeFrom_19 : decode cX4_takeFrom 19 = .ok (.invokestatic 314, 3) := dk_184 1 58 (dk_at dksX4_takeFrom_0 19 rfl rfl)
theorem dX4_takeFrom_22 : decode cX4_takeFrom 22 = .ok (.aload_n 1, 1) := dk_43 (dk_at dksX4_takeFrom_0 22 rfl rfl)
theorem dX4_takeFrom_23 : decode cX4_takeFrom 23 = .ok (.getfield 46, 3) := dk_180 0 46 (dk_at dksX4_takeFrom_1 0 rfl rfl)
theorem dX4_takeFrom_26 : decode cX4_takeFrom 26 = .ok (.aload_n 0, 1) := dk_42 (dk_at dksX4_takeFrom_1 3 rfl rfl)
theorem dX4_takeFrom_27 : decode cX4_takeFrom 27 = .ok (.getfield 46, 3) := dk_180 0 46 (dk_at dksX4_takeFrom_1 4 rfl rfl)
theorem dX4_takeFrom_30 : decode cX4_takeFrom 30 = .ok (.invokestatic 314, 3) := dk_184 1 58 (dk_at dksX4_takeFrom_1 7 rfl rfl)
theorem dX4_takeFrom_33 : decode cX4_takeFrom 33 = .ok (.aload_n 0, 1) := dk_42 (dk_at dksX4_takeFrom_1 10 rfl rfl)
theorem dX4_takeFrom_34 : decode cX4_takeFrom 34 = .ok (.aload_n 1, 1) := dk_43 (dk_at dksX4_takeFrom_1 11 rfl rfl)
theorem dX4_takeFrom_35 : decode cX4_takeFrom 35 = .ok (.getfield 85, 3) := dk_180 0 85 (dk_at dksX4_takeFrom_1 12 rfl rfl)
theorem dX4_takeFrom_38 : decode cX4_takeFrom 38 = .ok (.putfield 85, 3) := dk_181 0 85 (dk_at dksX4_takeFrom_1 15 rfl rfl)
theorem dX4_takeFrom_41 : decode cX4_takeFrom 41 = .ok (.iconst 0, 1) := dk_3 (dk_at dksX4_takeFrom_1 18 rfl rfl)
theorem dX4_takeFrom_42 : decode cX4_takeFrom 42 = .ok (.istore_n 2, 1) := dk_61 (dk_at dksX4_takeFrom_1 19 rfl rfl)
theorem dX4_takeFrom_43 : decode cX4_takeFrom 43 = .ok (.iload_n 2, 1) := dk_28 (dk_at dksX4_takeFrom_1 20 rfl rfl)
theorem dX4_takeFrom_44 : decode cX4_takeFrom 44 = .ok (.bipush 6, 2) := dk_16 6 (dk_at dksX4_takeFrom_1 21 rfl rfl)
theorem dX4_takeFrom_46 : decode cX4_takeFrom 46 = .ok (.if_icmp .ge 24, 3) := dk_162 0 24 (dk_at dksX4_takeFrom_2 0 rfl rfl)
theorem dX4_takeFrom_49 : decode cX4_takeFrom 49 = .ok (.aload_n 1, 1) := dk_43 (dk_at dksX4_takeFrom_2 3 rfl rfl)
theorem dX4_takeFrom_50 : decode cX4_takeFrom 50 = .ok (.getfield 51, 3) := dk_180 0 51 (dk_at dksX4_takeFrom_2 4 rfl rfl)
theorem dX4_takeFrom_53 : decode cX4_takeFrom 53 = .ok (.iload_n 2, 1) := dk_28 (dk_at dksX4_takeFrom_2 7 rfl rfl)
theorem dX4_takeFrom_54 : decode cX4_takeFrom 54 = .ok (.aaload, 1) := dk_50 (dk_at dksX4_takeFrom_2 8 rfl rfl)
theorem dX4_takeFrom_55 : decode cX4_takeFrom 55 = .ok (.aload_n 0, 1) := dk_42 (dk_at dksX4_takeFrom_2 9 rfl rfl)
theorem dX4_takeFrom_56 : decode cX4_takeFrom 56 = .ok (.getfield 51, 3) := dk_180 0 51 (dk_at dksX4_takeFrom_2 10 rfl rfl)
theorem dX4_takeFrom_59 : decode cX4_takeFrom 59 = .ok (.iload_n 2, 1) := dk_28 (dk_at dksX4_takeFrom_2 13 rfl rfl)
theorem dX4_takeFrom_60 : decode cX4_takeFrom 60 = .ok (.aaload, 1) := dk_50 (dk_at dksX4_takeFrom_2 14 rfl rfl)
theorem dX4_takeFrom_61 : decode cX4_takeFrom 61 = .ok (.invokestatic 314, 3) := dk_184 1 58 (dk_at dksX4_takeFrom_2 15 rfl rfl)
theorem dX4_takeFrom_64 : decode cX4_takeFrom 64 = .ok (.iinc 2 1, 3) := dk_132 2 1 (dk_at dksX4_takeFrom_2 18 rfl rfl)
theorem dX4_takeFrom_67 : decode cX4_takeFrom 67 = .ok (.goto (-24), 3) := dk_167 255 232 (dk_at dksX4_takeFrom_2 21 rfl rfl)
theorem dX4_takeFrom_70 : decode cX4_takeFrom 70 = .ok (.aload_n 1, 1) := dk_43 (dk_at dksX4_takeFrom_3 0 rfl rfl)
theorem dX4_takeFrom_71 : decode cX4_takeFrom 71 = .ok (.getfield 54, 3) := dk_180 0 54 (dk_at dksX4_takeFrom_3 1 rfl rfl)
theorem dX4_takeFrom_74 : decode cX4_takeFrom 74 = .ok (.aload_n 0, 1) := dk_42 (dk_at dksX4_takeFrom_3 4 rfl rfl)
theorem dX4_takeFrom_75 : decode cX4_takeFrom 75 = .ok (.getfield 54, 3) := dk_180 0 54 (dk_at dksX4_takeFrom_3 5 rfl rfl)
theorem dX4_takeFrom_78 : decode cX4_takeFrom 78 = .ok (.invokestatic 314, 3) := dk_184 1 58 (dk_at dksX4_takeFrom_3 8 rfl rfl)
theorem dX4_takeFrom_81 : decode cX4_takeFrom 81 = .ok (.aload_n 1, 1) := dk_43 (dk_at dksX4_takeFrom_3 11 rfl rfl)
theorem dX4_takeFrom_82 : decode cX4_takeFrom 82 = .ok (.getfield 57, 3) := dk_180 0 57 (dk_at dksX4_takeFrom_3 12 rfl rfl)
theorem dX4_takeFrom_85 : decode cX4_takeFrom 85 = .ok (.aload_n 0, 1) := dk_42 (dk_at dksX4_takeFrom_3 15 rfl rfl)
theorem dX4_takeFrom_86 : decode cX4_takeFrom 86 = .ok (.getfield 57, 3) := dk_180 0 57 (dk_at dksX4_takeFrom_3 16 rfl rfl)
theorem dX4_takeFrom_89 : decode cX4_takeFrom 89 = .ok (.invokestatic 314, 3) := dk_184 1 58 (dk_at dksX4_takeFrom_3 19 rfl rfl)
theorem dX4_takeFrom_92 : decode cX4_takeFrom 92 = .ok (.aload_n 0, 1) := dk_42 (dk_at dksX4_takeFrom_3 22 rfl rfl)
theorem dX4_takeFrom_93 : decode cX4_takeFrom 93 = .ok (.aload_n 1, 1) := dk_43 (dk_at dksX4_takeFrom_3 23 rfl rfl)
theorem dX4_takeFrom_94 : decode cX4_takeFrom 94 = .ok (.getfield 60, 3) := dk_180 0 60 (dk_at dksX4_takeFrom_4 0 rfl rfl)
theorem dX4_takeFrom_97 : decode cX4_takeFrom 97 = .ok (.putfield 60, 3) := dk_181 0 60 (dk_at dksX4_takeFrom_4 3 rfl rfl)
theorem dX4_takeFrom_100 : decode cX4_takeFrom 100 = .ok (.return_, 1) := dk_177 (dk_at dksX4_takeFrom_4 6 rfl rfl)
abbrev cX4_over : ByteArray := prog_19_method_90_code
def yX4_over : MethodName := ⟨RX4, "over", "([I[I)V"⟩
def dkwX4_over_0 : List UInt8 := [3, 61, 28, 42, 190, 162, 0, 15, 43, 28, 42, 28, 46, 79, 132, 2, 1, 167, 255, 241, 177]
abbrev dktX4_over_0 : List UInt8 := dkwX4_over_0 ++ []
theorem dksX4_over_0 : cX4_over.data.toList.drop 0 = dktX4_over_0 := by decide +kernel
theorem dX4_over_0 : decode cX4_over 0 = .ok (.iconst 0, 1) := dk_3 (dk_at dksX4_over_0 0 rfl rfl)
theorem dX4_over_1 : decode cX4_over 1 = .ok (.istore_n 2, 1) := dk_61 (dk_at dksX4_over_0 1 rfl rfl)
theorem dX4_over_2 : decode cX4_over 2 = .ok (.iload_n 2, 1) := dk_28 (dk_at dksX4_over_0 2 rfl rfl)
theorem dX4_over_3 : decode cX4_over 3 = .ok (.aload_n 0, 1) := dk_42 (dk_at dksX4_over_0 3 rfl rfl)
theorem dX4_over_4 : decode cX4_over 4 = .ok (.arraylength, 1) := dk_190 (dk_at dksX4_over_0 4 rfl rfl)
theorem dX4_over_5 : decode cX4_over 5 = .ok (.if_icmp .ge 15, 3) := dk_162 0 15 (dk_at dksX4_over_0 5 rfl rfl)
theorem dX4_over_8 : decode cX4_over 8 = .ok (.aload_n 1, 1) := dk_43 (dk_at dksX4_over_0 8 rfl rfl)
theorem dX4_over_9 : decode cX4_over 9 = .ok (.iload_n 2, 1) := dk_28 (dk_at dksX4_over_0 9 rfl rfl)
theorem dX4_over_10 : decode cX4_over 10 = .ok (.aload_n 0, 1) := dk_42 (dk_at dksX4_over_0 10 rfl rfl)
theorem dX4_over_11 : decode cX4_over 11 = .ok (.iload_n 2, 1) := dk_28 (dk_at dksX4_over_0 11 rfl rfl)
theorem dX4_over_12 : decode cX4_over 12 = .ok (.iaload, 1) := dk_46 (dk_at dksX4_over_0 12 rfl rfl)
theorem dX4_over_13 : decode cX4_over 13 = .ok (.iastore, 1) := dk_79 (dk_at dksX4_over_0 13 rfl rfl)
theorem dX4_over_14 : decode cX4_over 14 = .ok (.iinc 2 1, 3) := dk_132 2 1 (dk_at dksX4_over_0 14 rfl rfl)
theorem dX4_over_17 : decode cX4_over 17 = .ok (.goto (-15), 3) := dk_167 255 241 (dk_at dksX4_over_0 17 rfl rfl)
theorem dX4_over_20 : decode cX4_over 20 = .ok (.return_, 1) := dk_177 (dk_at dksX4_over_0 20 rfl rfl)
abbrev cX4_read : ByteArray := prog_19_method_40_code
def yX4_read : MethodName := ⟨RX4, "read", "()Z"⟩
def dkwX4_read_2 : List UInt8 := [182, 0, 236, 154, 0, 5, 3, 172, 42, 89, 180, 0, 233, 4, 96, 181, 0, 233, 167, 255, 213, 4, 172]
abbrev dktX4_read_2 : List UInt8 := dkwX4_read_2 ++ []
def dkwX4_read_1 : List UInt8 := [180, 0, 172, 153, 0, 42, 42, 180, 0, 172, 6, 159, 0, 8, 42, 182, 0, 198, 172, 42, 182, 0, 202, 42]
abbrev dktX4_read_1 : List UInt8 := dkwX4_read_1 ++ dktX4_read_2
def dkwX4_read_0 : List UInt8 := [42, 4, 181, 0, 233, 42, 3, 181, 0, 162, 42, 182, 0, 202, 42, 182, 0, 236, 154, 0, 5, 3, 172, 42]
abbrev dktX4_read_0 : List UInt8 := dkwX4_read_0 ++ dktX4_read_1
theorem dksX4_read_0 : cX4_read.data.toList.drop 0 = dktX4_read_0 := by decide +kernel
theorem dksX4_read_1 : cX4_read.data.toList.drop 24 = dktX4_read_1 := dk_seg dksX4_read_0 24 rfl rfl
theorem dksX4_read_2 : cX4_read.data.toList.drop 48 = dktX4_read_2 := dk_seg dksX4_read_1 24 rfl rfl
theorem dX4_read_0 : decode cX4_read 0 = .ok (.aload_n 0, 1) := dk_42 (dk_at dksX4_read_0 0 rfl rfl)
theorem dX4_read_1 : decode cX4_read 1 = .ok (.iconst 1, 1) := dk_4 (dk_at dksX4_read_0 1 rfl rfl)
theorem dX4_read_2 : decode cX4_read 2 = .ok (.putfield 233, 3) := dk_181 0 233 (dk_at dksX4_read_0 2 rfl rfl)
theorem dX4_read_5 : decode cX4_read 5 = .ok (.aload_n 0, 1) := dk_42 (dk_at dksX4_read_0 5 rfl rfl)
theorem dX4_read_6 : decode cX4_read 6 = .ok (.iconst 0, 1) := dk_3 (dk_at dksX4_read_0 6 rfl rfl)
theorem dX4_read_7 : decode cX4_read 7 = .ok (.putfield 162, 3) := dk_181 0 162 (dk_at dksX4_read_0 7 rfl rfl)
theorem dX4_read_10 : decode cX4_read 10 = .ok (.aload_n 0, 1) := dk_42 (dk_at dksX4_read_0 10 rfl rfl)
theorem dX4_read_11 : decode cX4_read 11 = .ok (.invokevirtual 202, 3) := dk_182 0 202 (dk_at dksX4_read_0 11 rfl rfl)
theorem dX4_read_14 : decode cX4_read 14 = .ok (.aload_n 0, 1) := dk_42 (dk_at dksX4_read_0 14 rfl rfl)
theorem dX4_read_15 : decode cX4_read 15 = .ok (.invokevirtual 236, 3) := dk_182 0 236 (dk_at dksX4_read_0 15 rfl rfl)
theorem dX4_read_18 : decode cX4_read 18 = .ok (.ifCond .ne 5, 3) := dk_154 0 5 (dk_at dksX4_read_0 18 rfl rfl)
theorem dX4_read_21 : decode cX4_read 21 = .ok (.iconst 0, 1) := dk_3 (dk_at dksX4_read_0 21 rfl rfl)
theorem dX4_read_22 : decode cX4_read 22 = .ok (.ireturn, 1) := dk_172 (dk_at dksX4_read_0 22 rfl rfl)
theorem dX4_read_23 : decode cX4_read 23 = .ok (.aload_n 0, 1) := dk_42 (dk_at dksX4_read_0 23 rfl rfl)
theorem dX4_read_24 : decode cX4_read 24 = .ok (.getfield 172, 3) := dk_180 0 172 (dk_at dksX4_read_1 0 rfl rfl)
theorem dX4_read_27 : decode cX4_read 27 = .ok (.ifCond .eq 42, 3) := dk_153 0 42 (dk_at dksX4_read_1 3 rfl rfl)
theorem dX4_read_30 : decode cX4_read 30 = .ok (.aload_n 0, 1) := dk_42 (dk_at dksX4_read_1 6 rfl rfl)
theorem dX4_read_31 : decode cX4_read 31 = .ok (.getfield 172, 3) := dk_180 0 172 (dk_at dksX4_read_1 7 rfl rfl)
theorem dX4_read_34 : decode cX4_read 34 = .ok (.iconst 3, 1) := dk_6 (dk_at dksX4_read_1 10 rfl rfl)
theorem dX4_read_35 : decode cX4_read 35 = .ok (.if_icmp .eq 8, 3) := dk_159 0 8 (dk_at dksX4_read_1 11 rfl rfl)
theorem dX4_read_38 : decode cX4_read 38 = .ok (.aload_n 0, 1) := dk_42 (dk_at dksX4_read_1 14 rfl rfl)
theorem dX4_read_39 : decode cX4_read 39 = .ok (.invokevirtual 198, 3) := dk_182 0 198 (dk_at dksX4_read_1 15 rfl rfl)
theorem dX4_read_42 : decode cX4_read 42 = .ok (.ireturn, 1) := dk_172 (dk_at dksX4_read_1 18 rfl rfl)
theorem dX4_read_43 : decode cX4_read 43 = .ok (.aload_n 0, 1) := dk_42 (dk_at dksX4_read_1 19 rfl rfl)
theorem dX4_read_44 : decode cX4_read 44 = .ok (.invokevirtual 202, 3) := dk_182 0 202 (dk_at dksX4_read_1 20 rfl rfl)
theorem dX4_read_47 : decode cX4_read 47 = .ok (.aload_n 0, 1) := dk_42 (dk_at dksX4_read_1 23 rfl rfl)
theorem dX4_read_48 : decode cX4_read 48 = .ok (.invokevirtual 236, 3) := dk_182 0 236 (dk_at dksX4_read_2 0 rfl rfl)
theorem dX4_read_51 : decode cX4_read 51 = .ok (.ifCond .ne 5, 3) := dk_154 0 5 (dk_at dksX4_read_2 3 rfl rfl)
theorem dX4_read_54 : decode cX4_read 54 = .ok (.iconst 0, 1) := dk_3 (dk_at dksX4_read_2 6 rfl rfl)
theorem dX4_read_55 : decode cX4_read 55 = .ok (.ireturn, 1) := dk_172 (dk_at dksX4_read_2 7 rfl rfl)
theorem dX4_read_56 : decode cX4_read 56 = .ok (.aload_n 0, 1) := dk_42 (dk_at dksX4_read_2 8 rfl rfl)
theorem dX4_read_57 : decode cX4_read 57 = .ok (.dup, 1) := dk_89 (dk_at dksX4_read_2 9 rfl rfl)
theorem dX4_read_58 : decode cX4_read 58 = .ok (.getfield 233, 3) := dk_180 0 233 (dk_at dksX4_read_2 10 rfl rfl)
theorem dX4_read_61 : decode cX4_read 61 = .ok (.iconst 1, 1) := dk_4 (dk_at dksX4_read_2 13 rfl rfl)
theorem dX4_read_62 : decode cX4_read 62 = .ok (.iadd, 1) := dk_96 (dk_at dksX4_read_2 14 rfl rfl)
theorem dX4_read_63 : decode cX4_read 63 = .ok (.putfield 233, 3) := dk_181 0 233 (dk_at dksX4_read_2 15 rfl rfl)
theorem dX4_read_66 : decode cX4_read 66 = .ok (.goto (-43), 3) := dk_167 255 213 (dk_at dksX4_read_2 18 rfl rfl)
theorem dX4_read_69 : decode cX4_read 69 = .ok (.iconst 1, 1) := dk_4 (dk_at dksX4_read_2 21 rfl rfl)
theorem dX4_read_70 : decode cX4_read 70 = .ok (.ireturn, 1) := dk_172 (dk_at dksX4_read_2 22 rfl rfl)
abbrev cX4_look : ByteArray := prog_19_method_33_code
def yX4_look : MethodName := ⟨RX4, "look", "()V"⟩
def dkwX4_look_11 : List UInt8 := [180, 0, 162, 4, 96, 181, 0, 162, 177]
abbrev dktX4_look_11 : List UInt8 := dkwX4_look_11 ++ []
def dkwX4_look_10 : List UInt8 := [180, 0, 34, 42, 180, 0, 162, 46, 16, 59, 160, 0, 7, 6, 167, 0, 4, 7, 181, 0, 172, 42, 89]
abbrev dktX4_look_10 : List UInt8 := dkwX4_look_10 ++ dktX4_look_11
def dkwX4_look_9 : List UInt8 := [167, 0, 6, 20, 0, 184, 181, 0, 168, 42, 89, 180, 0, 162, 4, 96, 181, 0, 162, 167, 255, 174, 42, 42]
abbrev dktX4_look_9 : List UInt8 := dkwX4_look_9 ++ dktX4_look_10
def dkwX4_look_8 : List UInt8 := [42, 180, 0, 168, 20, 0, 139, 105, 42, 180, 0, 34, 42, 180, 0, 162, 46, 133, 97, 20, 0, 182, 101]
abbrev dktX4_look_8 : List UInt8 := dkwX4_look_8 ++ dktX4_look_9
def dkwX4_look_7 : List UInt8 := [180, 0, 162, 46, 184, 0, 179, 153, 0, 95, 42, 42, 180, 0, 162, 42, 180, 0, 165, 100, 6, 162, 0, 29]
abbrev dktX4_look_7 : List UInt8 := dkwX4_look_7 ++ dktX4_look_8
def dkwX4_look_6 : List UInt8 := [153, 0, 93, 42, 5, 181, 0, 172, 42, 180, 0, 162, 42, 180, 0, 159, 162, 0, 110, 42, 180, 0, 34, 42]
abbrev dktX4_look_6 : List UInt8 := dkwX4_look_6 ++ dktX4_look_7
def dkwX4_look_5 : List UInt8 := [180, 0, 162, 4, 96, 181, 0, 162, 167, 255, 220, 42, 180, 0, 34, 42, 180, 0, 162, 46, 184, 0, 179]
abbrev dktX4_look_5 : List UInt8 := dkwX4_look_5 ++ dktX4_look_6
def dkwX4_look_4 : List UInt8 := [42, 180, 0, 159, 162, 0, 169, 42, 180, 0, 34, 42, 180, 0, 162, 46, 184, 0, 175, 153, 0, 154, 42, 89]
abbrev dktX4_look_4 : List UInt8 := dkwX4_look_4 ++ dktX4_look_5
def dkwX4_look_3 : List UInt8 := [42, 180, 0, 34, 42, 180, 0, 162, 46, 184, 0, 175, 153, 0, 47, 42, 4, 181, 0, 172, 42, 180, 0, 162]
abbrev dktX4_look_3 : List UInt8 := dkwX4_look_3 ++ dktX4_look_4
def dkwX4_look_2 : List UInt8 := [42, 9, 181, 0, 168, 42, 180, 0, 162, 42, 180, 0, 159, 160, 0, 11, 42, 3, 181, 0, 172, 167, 0, 200]
abbrev dktX4_look_2 : List UInt8 := dkwX4_look_2 ++ dktX4_look_3
def dkwX4_look_1 : List UInt8 := [160, 0, 16, 42, 89, 180, 0, 162, 4, 96, 181, 0, 162, 167, 255, 221, 42, 42, 180, 0, 162, 181, 0, 165]
abbrev dktX4_look_1 : List UInt8 := dkwX4_look_1 ++ dktX4_look_2
def dkwX4_look_0 : List UInt8 := [42, 180, 0, 162, 42, 180, 0, 159, 162, 0, 30, 42, 180, 0, 34, 42, 180, 0, 162, 46, 16, 32]
abbrev dktX4_look_0 : List UInt8 := dkwX4_look_0 ++ dktX4_look_1
theorem dksX4_look_0 : cX4_look.data.toList.drop 0 = dktX4_look_0 := by decide +kernel
theorem dksX4_look_1 : cX4_look.data.toList.drop 22 = dktX4_look_1 := dk_seg dksX4_look_0 22 rfl rfl
theorem dksX4_look_2 : cX4_look.data.toList.drop 46 = dktX4_look_2 := dk_seg dksX4_look_1 24 rfl rfl
theorem dksX4_look_3 : cX4_look.data.toList.drop 70 = dktX4_look_3 := dk_seg dksX4_look_2 24 rfl rfl
theorem dksX4_look_4 : cX4_look.data.toList.drop 94 = dktX4_look_4 := dk_seg dksX4_look_3 24 rfl rfl
theorem dksX4_look_5 : cX4_look.data.toList.drop 118 = dktX4_look_5 := dk_seg dksX4_look_4 24 rfl rfl
theorem dksX4_look_6 : cX4_look.data.toList.drop 141 = dktX4_look_6 := dk_seg dksX4_look_5 23 rfl rfl
theorem dksX4_look_7 : cX4_look.data.toList.drop 165 = dktX4_look_7 := dk_seg dksX4_look_6 24 rfl rfl
theorem dksX4_look_8 : cX4_look.data.toList.drop 189 = dktX4_look_8 := dk_seg dksX4_look_7 24 rfl rfl
theorem dksX4_look_9 : cX4_look.data.toList.drop 212 = dktX4_look_9 := dk_seg dksX4_look_8 23 rfl rfl
theorem dksX4_look_10 : cX4_look.data.toList.drop 236 = dktX4_look_10 := dk_seg dksX4_look_9 24 rfl rfl
theorem dksX4_look_11 : cX4_look.data.toList.drop 259 = dktX4_look_11 := dk_seg dksX4_look_10 23 rfl rfl
theorem dX4_look_0 : decode cX4_look 0 = .ok (.aload_n 0, 1) := dk_42 (dk_at dksX4_look_0 0 rfl rfl)
theorem dX4_look_1 : decode cX4_look 1 = .ok (.getfield 162, 3) := dk_180 0 162 (dk_at dksX4_look_0 1 rfl rfl)
theorem dX4_look_4 : decode cX4_look 4 = .ok (.aload_n 0, 1) := dk_42 (dk_at dksX4_look_0 4 rfl rfl)
theorem dX4_look_5 : decode cX4_look 5 = .ok (.getfield 159, 3) := dk_180 0 159 (dk_at dksX4_look_0 5 rfl rfl)
theorem dX4_look_8 : decode cX4_look 8 = .ok (.if_icmp .ge 30, 3) := dk_162 0 30 (dk_at dksX4_look_0 8 rfl rfl)
theorem dX4_look_11 : decode cX4_look 11 = .ok (.aload_n 0, 1) := dk_42 (dk_at dksX4_look_0 11 rfl rfl)
theorem dX4_look_12 : decode cX4_look 12 = .ok (.getfield 34, 3) := dk_180 0 34 (dk_at dksX4_look_0 12 rfl rfl)
theorem dX4_look_15 : decode cX4_look 15 = .ok (.aload_n 0, 1) := dk_42 (dk_at dksX4_look_0 15 rfl rfl)
theorem dX4_look_16 : decode cX4_look 16 = .ok (.getfield 162, 3) := dk_180 0 162 (dk_at dksX4_look_0 16 rfl rfl)
theorem dX4_look_19 : decode cX4_look 19 = .ok (.iaload, 1) := dk_46 (dk_at dksX4_look_0 19 rfl rfl)
theorem dX4_look_20 : decode cX4_look 20 = .ok (.bipush 32, 2) := dk_16 32 (dk_at dksX4_look_0 20 rfl rfl)
theorem dX4_look_22 : decode cX4_look 22 = .ok (.if_icmp .ne 16, 3) := dk_160 0 16 (dk_at dksX4_look_1 0 rfl rfl)
theorem dX4_look_25 : decode cX4_look 25 = .ok (.aload_n 0, 1) := dk_42 (dk_at dksX4_look_1 3 rfl rfl)
theorem dX4_look_26 : decode cX4_look 26 = .ok (.dup, 1) := dk_89 (dk_at dksX4_look_1 4 rfl rfl)
theorem dX4_look_27 : decode cX4_look 27 = .ok (.getfield 162, 3) := dk_180 0 162 (dk_at dksX4_look_1 5 rfl rfl)
theorem dX4_look_30 : decode cX4_look 30 = .ok (.iconst 1, 1) := dk_4 (dk_at dksX4_look_1 8 rfl rfl)
theorem dX4_look_31 : decode cX4_look 31 = .ok (.iadd, 1) := dk_96 (dk_at dksX4_look_1 9 rfl rfl)
theorem dX4_look_32 : decode cX4_look 32 = .ok (.putfield 162, 3) := dk_181 0 162 (dk_at dksX4_look_1 10 rfl rfl)
theorem dX4_look_35 : decode cX4_look 35 = .ok (.goto (-35), 3) := dk_167 255 221 (dk_at dksX4_look_1 13 rfl rfl)
theorem dX4_look_38 : decode cX4_look 38 = .ok (.aload_n 0, 1) := dk_42 (dk_at dksX4_look_1 16 rfl rfl)
theorem dX4_look_39 : decode cX4_look 39 = .ok (.aload_n 0, 1) := dk_42 (dk_at dksX4_look_1 17 rfl rfl)
theorem dX4_look_40 : decode cX4_look 40 = .ok (.getfield 162, 3) := dk_180 0 162 (dk_at dksX4_look_1 18 rfl rfl)
theorem dX4_look_43 : decode cX4_look 43 = .ok (.putfield 165, 3) := dk_181 0 165 (dk_at dksX4_look_1 21 rfl rfl)
theorem dX4_look_46 : decode cX4_look 46 = .ok (.aload_n 0, 1) := dk_42 (dk_at dksX4_look_2 0 rfl rfl)
theorem dX4_look_47 : decode cX4_look 47 = .ok (.lconst 0, 1) := dk_9 (dk_at dksX4_look_2 1 rfl rfl)
theorem dX4_look_48 : decode cX4_look 48 = .ok (.putfield 168, 3) := dk_181 0 168 (dk_at dksX4_look_2 2 rfl rfl)
theorem dX4_look_51 : decode cX4_look 51 = .ok (.aload_n 0, 1) := dk_42 (dk_at dksX4_look_2 5 rfl rfl)
theorem dX4_look_52 : decode cX4_look 52 = .ok (.getfield 162, 3) := dk_180 0 162 (dk_at dksX4_look_2 6 rfl rfl)
theorem dX4_look_55 : decode cX4_look 55 = .ok (.aload_n 0, 1) := dk_42 (dk_at dksX4_look_2 9 rfl rfl)
theorem dX4_look_56 : decode cX4_look 56 = .ok (.getfield 159, 3) := dk_180 0 159 (dk_at dksX4_look_2 10 rfl rfl)
theorem dX4_look_59 : decode cX4_look 59 = .ok (.if_icmp .ne 11, 3) := dk_160 0 11 (dk_at dksX4_look_2 13 rfl rfl)
theorem dX4_look_62 : decode cX4_look 62 = .ok (.aload_n 0, 1) := dk_42 (dk_at dksX4_look_2 16 rfl rfl)
theorem dX4_look_63 : decode cX4_look 63 = .ok (.iconst 0, 1) := dk_3 (dk_at dksX4_look_2 17 rfl rfl)
theorem dX4_look_64 : decode cX4_look 64 = .ok (.putfield 172, 3) := dk_181 0 172 (dk_at dksX4_look_2 18 rfl rfl)
theorem dX4_look_67 : decode cX4_look 67 = .ok (.goto 200, 3) := dk_167 0 200 (dk_at dksX4_look_2 21 rfl rfl)
theorem dX4_look_70 : decode cX4_look 70 = .ok (.aload_n 0, 1) := dk_42 (dk_at dksX4_look_3 0 rfl rfl)
theorem dX4_look_71 : decode cX4_look 71 = .ok (.getfield 34, 3) := dk_180 0 34 (dk_at dksX4_look_3 1 rfl rfl)
theorem dX4_look_74 : decode cX4_look 74 = .ok (.aload_n 0, 1) := dk_42 (dk_at dksX4_look_3 4 rfl rfl)
theorem dX4_look_75 : decode cX4_look 75 = .ok (.getfield 162, 3) := dk_180 0 162 (dk_at dksX4_look_3 5 rfl rfl)
theorem dX4_look_78 : decode cX4_look 78 = .ok (.iaload, 1) := dk_46 (dk_at dksX4_look_3 8 rfl rfl)
theorem dX4_look_79 : decode cX4_look 79 = .ok (.invokestatic 175, 3) := dk_184 0 175 (dk_at dksX4_look_3 9 rfl rfl)
theorem dX4_look_82 : decode cX4_look 82 = .ok (.ifCond .eq 47, 3) := dk_153 0 47 (dk_at dksX4_look_3 12 rfl rfl)
theorem dX4_look_85 : decode cX4_look 85 = .ok (.aload_n 0, 1) := dk_42 (dk_at dksX4_look_3 15 rfl rfl)
theorem dX4_look_86 : decode cX4_look 86 = .ok (.iconst 1, 1) := dk_4 (dk_at dksX4_look_3 16 rfl rfl)
theorem dX4_look_87 : decode cX4_look 87 = .ok (.putfield 172, 3) := dk_181 0 172 (dk_at dksX4_look_3 17 rfl rfl)
theorem dX4_look_90 : decode cX4_look 90 = .ok (.aload_n 0, 1) := dk_42 (dk_at dksX4_look_3 20 rfl rfl)
theorem dX4_look_91 : decode cX4_look 91 = .ok (.getfield 162, 3) := dk_180 0 162 (dk_at dksX4_look_3 21 rfl rfl)
theorem dX4_look_94 : decode cX4_look 94 = .ok (.aload_n 0, 1) := dk_42 (dk_at dksX4_look_4 0 rfl rfl)
theorem dX4_look_95 : decode cX4_look 95 = .ok (.getfield 159, 3) := dk_180 0 159 (dk_at dksX4_look_4 1 rfl rfl)
theorem dX4_look_98 : decode cX4_look 98 = .ok (.if_icmp .ge 169, 3) := dk_162 0 169 (dk_at dksX4_look_4 4 rfl rfl)
theorem dX4_look_101 : decode cX4_look 101 = .ok (.aload_n 0, 1) := dk_42 (dk_at dksX4_look_4 7 rfl rfl)
theorem dX4_look_102 : decode cX4_look 102 = .ok (.getfield 34, 3) := dk_180 0 34 (dk_at dksX4_look_4 8 rfl rfl)
theorem dX4_look_105 : decode cX4_look 105 = .ok (.aload_n 0, 1) := dk_42 (dk_at dksX4_look_4 11 rfl rfl)
theorem dX4_look_106 : decode cX4_look 106 = .ok (.getfield 162, 3) := dk_180 0 162 (dk_at dksX4_look_4 12 rfl rfl)
theorem dX4_look_109 : decode cX4_look 109 = .ok (.iaload, 1) := dk_46 (dk_at dksX4_look_4 15 rfl rfl)
theorem dX4_look_110 : decode cX4_look 110 = .ok (.invokestatic 175, 3) := dk_184 0 175 (dk_at dksX4_look_4 16 rfl rfl)
theorem dX4_look_113 : decode cX4_look 113 = .ok (.ifCond .eq 154, 3) := dk_153 0 154 (dk_at dksX4_look_4 19 rfl rfl)
theorem dX4_look_116 : decode cX4_look 116 = .ok (.aload_n 0, 1) := dk_42 (dk_at dksX4_look_4 22 rfl rfl)
theorem dX4_look_117 : decode cX4_look 117 = .ok (.dup, 1) := dk_89 (dk_at dksX4_look_4 23 rfl rfl)
theorem dX4_look_118 : decode cX4_look 118 = .ok (.getfield 162, 3) := dk_180 0 162 (dk_at dksX4_look_5 0 rfl rfl)
theorem dX4_look_121 : decode cX4_look 121 = .ok (.iconst 1, 1) := dk_4 (dk_at dksX4_look_5 3 rfl rfl)
theorem dX4_look_122 : decode cX4_look 122 = .ok (.iadd, 1) := dk_96 (dk_at dksX4_look_5 4 rfl rfl)
theorem dX4_look_123 : decode cX4_look 123 = .ok (.putfield 162, 3) := dk_181 0 162 (dk_at dksX4_look_5 5 rfl rfl)
theorem dX4_look_126 : decode cX4_look 126 = .ok (.goto (-36), 3) := dk_167 255 220 (dk_at dksX4_look_5 8 rfl rfl)
theorem dX4_look_129 : decode cX4_look 129 = .ok (.aload_n 0, 1) := dk_42 (dk_at dksX4_look_5 11 rfl rfl)
theorem dX4_look_130 : decode cX4_look 130 = .ok (.getfield 34, 3) := dk_180 0 34 (dk_at dksX4_look_5 12 rfl rfl)
theorem dX4_look_133 : decode cX4_look 133 = .ok (.aload_n 0, 1) := dk_42 (dk_at dksX4_look_5 15 rfl rfl)
theorem dX4_look_134 : decode cX4_look 134 = .ok (.getfield 162, 3) := dk_180 0 162 (dk_at dksX4_look_5 16 rfl rfl)
theorem dX4_look_137 : decode cX4_look 137 = .ok (.iaload, 1) := dk_46 (dk_at dksX4_look_5 19 rfl rfl)
theorem dX4_look_138 : decode cX4_look 138 = .ok (.invokestatic 179, 3) := dk_184 0 179 (dk_at dksX4_look_5 20 rfl rfl)
theorem dX4_look_141 : decode cX4_look 141 = .ok (.ifCond .eq 93, 3) := dk_153 0 93 (dk_at dksX4_look_6 0 rfl rfl)
theorem dX4_look_144 : decode cX4_look 144 = .ok (.aload_n 0, 1) := dk_42 (dk_at dksX4_look_6 3 rfl rfl)
theorem dX4_look_145 : decode cX4_look 145 = .ok (.iconst 2, 1) := dk_5 (dk_at dksX4_look_6 4 rfl rfl)
theorem dX4_look_146 : decode cX4_look 146 = .ok (.putfield 172, 3) := dk_181 0 172 (dk_at dksX4_look_6 5 rfl rfl)
theorem dX4_look_149 : decode cX4_look 149 = .ok (.aload_n 0, 1) := dk_42 (dk_at dksX4_look_6 8 rfl rfl)
theorem dX4_look_150 : decode cX4_look 150 = .ok (.getfield 162, 3) := dk_180 0 162 (dk_at dksX4_look_6 9 rfl rfl)
theorem dX4_look_153 : decode cX4_look 153 = .ok (.aload_n 0, 1) := dk_42 (dk_at dksX4_look_6 12 rfl rfl)
theorem dX4_look_154 : decode cX4_look 154 = .ok (.getfield 159, 3) := dk_180 0 159 (dk_at dksX4_look_6 13 rfl rfl)
theorem dX4_look_157 : decode cX4_look 157 = .ok (.if_icmp .ge 110, 3) := dk_162 0 110 (dk_at dksX4_look_6 16 rfl rfl)
theorem dX4_look_160 : decode cX4_look 160 = .ok (.aload_n 0, 1) := dk_42 (dk_at dksX4_look_6 19 rfl rfl)
theorem dX4_look_161 : decode cX4_look 161 = .ok (.getfield 34, 3) := dk_180 0 34 (dk_at dksX4_look_6 20 rfl rfl)
theorem dX4_look_164 : decode cX4_look 164 = .ok (.aload_n 0, 1) := dk_42 (dk_at dksX4_look_6 23 rfl rfl)
theorem dX4_look_165 : decode cX4_look 165 = .ok (.getfield 162, 3) := dk_180 0 162 (dk_at dksX4_look_7 0 rfl rfl)
theorem dX4_look_168 : decode cX4_look 168 = .ok (.iaload, 1) := dk_46 (dk_at dksX4_look_7 3 rfl rfl)
theorem dX4_look_169 : decode cX4_look 169 = .ok (.invokestatic 179, 3) := dk_184 0 179 (dk_at dksX4_look_7 4 rfl rfl)
theorem dX4_look_172 : decode cX4_look 172 = .ok (.ifCond .eq 95, 3) := dk_153 0 95 (dk_at dksX4_look_7 7 rfl rfl)
theorem dX4_look_175 : decode cX4_look 175 = .ok (.aload_n 0, 1) := dk_42 (dk_at dksX4_look_7 10 rfl rfl)
theorem dX4_look_176 : decode cX4_look 176 = .ok (.aload_n 0, 1) := dk_42 (dk_at dksX4_look_7 11 rfl rfl)
theorem dX4_look_177 : decode cX4_look 177 = .ok (.getfield 162, 3) := dk_180 0 162 (dk_at dksX4_look_7 12 rfl rfl)
theorem dX4_look_180 : decode cX4_look 180 = .ok (.aload_n 0, 1) := dk_42 (dk_at dksX4_look_7 15 rfl rfl)
theorem dX4_look_181 : decode cX4_look 181 = .ok (.getfield 165, 3) := dk_180 0 165 (dk_at dksX4_look_7 16 rfl rfl)
theorem dX4_look_184 : decode cX4_look 184 = .ok (.isub, 1) := dk_100 (dk_at dksX4_look_7 19 rfl rfl)
theorem dX4_look_185 : decode cX4_look 185 = .ok (.iconst 3, 1) := dk_6 (dk_at dksX4_look_7 20 rfl rfl)
theorem dX4_look_186 : decode cX4_look 186 = .ok (.if_icmp .ge 29, 3) := dk_162 0 29 (dk_at dksX4_look_7 21 rfl rfl)
theorem dX4_look_189 : decode cX4_look 189 = .ok (.aload_n 0, 1) := dk_42 (dk_at dksX4_look_8 0 rfl rfl)
theorem dX4_look_190 : decode cX4_look 190 = .ok (.getfield 168, 3) := dk_180 0 168 (dk_at dksX4_look_8 1 rfl rfl)
theorem dX4_look_193 : decode cX4_look 193 = .ok (.ldc2_w 139, 3) := dk_20 0 139 (dk_at dksX4_look_8 4 rfl rfl)
theorem dX4_look_196 : decode cX4_look 196 = .ok (.lmul, 1) := dk_105 (dk_at dksX4_look_8 7 rfl rfl)
theorem dX4_look_197 : decode cX4_look 197 = .ok (.aload_n 0, 1) := dk_42 (dk_at dksX4_look_8 8 rfl rfl)
theorem dX4_look_198 : decode cX4_look 198 = .ok (.getfield 34, 3) := dk_180 0 34 (dk_at dksX4_look_8 9 rfl rfl)
theorem dX4_look_201 : decode cX4_look 201 = .ok (.aload_n 0, 1) := dk_42 (dk_at dksX4_look_8 12 rfl rfl)
theorem dX4_look_202 : decode cX4_look 202 = .ok (.getfield 162, 3) := dk_180 0 162 (dk_at dksX4_look_8 13 rfl rfl)
theorem dX4_look_205 : decode cX4_look 205 = .ok (.iaload, 1) := dk_46 (dk_at dksX4_look_8 16 rfl rfl)
theorem dX4_look_206 : decode cX4_look 206 = .ok (.i2l, 1) := dk_133 (dk_at dksX4_look_8 17 rfl rfl)
theorem dX4_look_207 : decode cX4_look 207 = .ok (.ladd, 1) := dk_97 (dk_at dksX4_look_8 18 rfl rfl)
theorem dX4_look_208 : decode cX4_look 208 = .ok (.ldc2_w 182, 3) := dk_20 0 182 (dk_at dksX4_look_8 19 rfl rfl)
theorem dX4_look_211 : decode cX4_look 211 = .ok (.lsub, 1) := dk_101 (dk_at dksX4_look_8 22 rfl rfl)
theorem dX4_look_212 : decode cX4_look 212 = .ok (.goto 6, 3) := dk_167 0 6 (dk_at dksX4_look_9 0 rfl rfl)
theorem dX4_look_215 : decode cX4_look 215 = .ok (.ldc2_w 184, 3) := dk_20 0 184 (dk_at dksX4_look_9 3 rfl rfl)
theorem dX4_look_218 : decode cX4_look 218 = .ok (.putfield 168, 3) := dk_181 0 168 (dk_at dksX4_look_9 6 rfl rfl)
theorem dX4_look_221 : decode cX4_look 221 = .ok (.aload_n 0, 1) := dk_42 (dk_at dksX4_look_9 9 rfl rfl)
theorem dX4_look_222 : decode cX4_look 222 = .ok (.dup, 1) := dk_89 (dk_at dksX4_look_9 10 rfl rfl)
theorem dX4_look_223 : decode cX4_look 223 = .ok (.getfield 162, 3) := dk_180 0 162 (dk_at dksX4_look_9 11 rfl rfl)
theorem dX4_look_226 : decode cX4_look 226 = .ok (.iconst 1, 1) := dk_4 (dk_at dksX4_look_9 14 rfl rfl)
theorem dX4_look_227 : decode cX4_look 227 = .ok (.iadd, 1) := dk_96 (dk_at dksX4_look_9 15 rfl rfl)
theorem dX4_look_228 : decode cX4_look 228 = .ok (.putfield 162, 3) := dk_181 0 162 (dk_at dksX4_look_9 16 rfl rfl)
theorem dX4_look_231 : decode cX4_look 231 = .ok (.goto (-82), 3) := dk_167 255 174 (dk_at dksX4_look_9 19 rfl rfl)
theorem dX4_look_234 : decode cX4_look 234 = .ok (.aload_n 0, 1) := dk_42 (dk_at dksX4_look_9 22 rfl rfl)
theorem dX4_look_235 : decode cX4_look 235 = .ok (.aload_n 0, 1) := dk_42 (dk_at dksX4_look_9 23 rfl rfl)
theorem dX4_look_236 : decode cX4_look 236 = .ok (.getfield 34, 3) := dk_180 0 34 (dk_at dksX4_look_10 0 rfl rfl)
theorem dX4_look_239 : decode cX4_look 239 = .ok (.aload_n 0, 1) := dk_42 (dk_at dksX4_look_10 3 rfl rfl)
theorem dX4_look_240 : decode cX4_look 240 = .ok (.getfield 162, 3) := dk_180 0 162 (dk_at dksX4_look_10 4 rfl rfl)
theorem dX4_look_243 : decode cX4_look 243 = .ok (.iaload, 1) := dk_46 (dk_at dksX4_look_10 7 rfl rfl)
theorem dX4_look_244 : decode cX4_look 244 = .ok (.bipush 59, 2) := dk_16 59 (dk_at dksX4_look_10 8 rfl rfl)
theorem dX4_look_246 : decode cX4_look 246 = .ok (.if_icmp .ne 7, 3) := dk_160 0 7 (dk_at dksX4_look_10 10 rfl rfl)
theorem dX4_look_249 : decode cX4_look 249 = .ok (.iconst 3, 1) := dk_6 (dk_at dksX4_look_10 13 rfl rfl)
theorem dX4_look_250 : decode cX4_look 250 = .ok (.goto 4, 3) := dk_167 0 4 (dk_at dksX4_look_10 14 rfl rfl)
theorem dX4_look_253 : decode cX4_look 253 = .ok (.iconst 4, 1) := dk_7 (dk_at dksX4_look_10 17 rfl rfl)
theorem dX4_look_254 : decode cX4_look 254 = .ok (.putfield 172, 3) := dk_181 0 172 (dk_at dksX4_look_10 18 rfl rfl)
theorem dX4_look_257 : decode cX4_look 257 = .ok (.aload_n 0, 1) := dk_42 (dk_at dksX4_look_10 21 rfl rfl)
theorem dX4_look_258 : decode cX4_look 258 = .ok (.dup, 1) := dk_89 (dk_at dksX4_look_10 22 rfl rfl)
theorem dX4_look_259 : decode cX4_look 259 = .ok (.getfield 162, 3) := dk_180 0 162 (dk_at dksX4_look_11 0 rfl rfl)
theorem dX4_look_262 : decode cX4_look 262 = .ok (.iconst 1, 1) := dk_4 (dk_at dksX4_look_11 3 rfl rfl)
theorem dX4_look_263 : decode cX4_look 263 = .ok (.iadd, 1) := dk_96 (dk_at dksX4_look_11 4 rfl rfl)
theorem dX4_look_264 : decode cX4_look 264 = .ok (.putfield 162, 3) := dk_181 0 162 (dk_at dksX4_look_11 5 rfl rfl)
theorem dX4_look_267 : decode cX4_look 267 = .ok (.return_, 1) := dk_177 (dk_at dksX4_look_11 8 rfl rfl)
abbrev cX4_isLetter : ByteArray := prog_19_method_31_code
def yX4_isLetter : MethodName := ⟨RX4, "isLetter", "(I)Z"⟩
def dkwX4_isLetter_0 : List UInt8 := [26, 16, 97, 161, 0, 13, 26, 16, 122, 163, 0, 7, 4, 167, 0, 4, 3, 172]
abbrev dktX4_isLetter_0 : List UInt8 := dkwX4_isLetter_0 ++ []
theorem dksX4_isLetter_0 : cX4_isLetter.data.toList.drop 0 = dktX4_isLetter_0 := by decide +kernel
theorem dX4_isLetter_0 : decode cX4_isLetter 0 = .ok (.iload_n 0, 1) := dk_26 (dk_at dksX4_isLetter_0 0 rfl rfl)
theorem dX4_isLetter_1 : decode cX4_isLetter 1 = .ok (.bipush 97, 2) := dk_16 97 (dk_at dksX4_isLetter_0 1 rfl rfl)
theorem dX4_isLetter_3 : decode cX4_isLetter 3 = .ok (.if_icmp .lt 13, 3) := dk_161 0 13 (dk_at dksX4_isLetter_0 3 rfl rfl)
theorem dX4_isLetter_6 : decode cX4_isLetter 6 = .ok (.iload_n 0, 1) := dk_26 (dk_at dksX4_isLetter_0 6 rfl rfl)
theorem dX4_isLetter_7 : decode cX4_isLetter 7 = .ok (.bipush 122, 2) := dk_16 122 (dk_at dksX4_isLetter_0 7 rfl rfl)
theorem dX4_isLetter_9 : decode cX4_isLetter 9 = .ok (.if_icmp .gt 7, 3) := dk_163 0 7 (dk_at dksX4_isLetter_0 9 rfl rfl)
theorem dX4_isLetter_12 : decode cX4_isLetter 12 = .ok (.iconst 1, 1) := dk_4 (dk_at dksX4_isLetter_0 12 rfl rfl)
theorem dX4_isLetter_13 : decode cX4_isLetter 13 = .ok (.goto 4, 3) := dk_167 0 4 (dk_at dksX4_isLetter_0 13 rfl rfl)
theorem dX4_isLetter_16 : decode cX4_isLetter 16 = .ok (.iconst 0, 1) := dk_3 (dk_at dksX4_isLetter_0 16 rfl rfl)
theorem dX4_isLetter_17 : decode cX4_isLetter 17 = .ok (.ireturn, 1) := dk_172 (dk_at dksX4_isLetter_0 17 rfl rfl)
abbrev cX4_isDigit : ByteArray := prog_19_method_32_code
def yX4_isDigit : MethodName := ⟨RX4, "isDigit", "(I)Z"⟩
def dkwX4_isDigit_0 : List UInt8 := [26, 16, 48, 161, 0, 13, 26, 16, 57, 163, 0, 7, 4, 167, 0, 4, 3, 172]
abbrev dktX4_isDigit_0 : List UInt8 := dkwX4_isDigit_0 ++ []
theorem dksX4_isDigit_0 : cX4_isDigit.data.toList.drop 0 = dktX4_isDigit_0 := by decide +kernel
theorem dX4_isDigit_0 : decode cX4_isDigit 0 = .ok (.iload_n 0, 1) := dk_26 (dk_at dksX4_isDigit_0 0 rfl rfl)
theorem dX4_isDigit_1 : decode cX4_isDigit 1 = .ok (.bipush 48, 2) := dk_16 48 (dk_at dksX4_isDigit_0 1 rfl rfl)
theorem dX4_isDigit_3 : decode cX4_isDigit 3 = .ok (.if_icmp .lt 13, 3) := dk_161 0 13 (dk_at dksX4_isDigit_0 3 rfl rfl)
theorem dX4_isDigit_6 : decode cX4_isDigit 6 = .ok (.iload_n 0, 1) := dk_26 (dk_at dksX4_isDigit_0 6 rfl rfl)
theorem dX4_isDigit_7 : decode cX4_isDigit 7 = .ok (.bipush 57, 2) := dk_16 57 (dk_at dksX4_isDigit_0 7 rfl rfl)
theorem dX4_isDigit_9 : decode cX4_isDigit 9 = .ok (.if_icmp .gt 7, 3) := dk_163 0 7 (dk_at dksX4_isDigit_0 9 rfl rfl)
theorem dX4_isDigit_12 : decode cX4_isDigit 12 = .ok (.iconst 1, 1) := dk_4 (dk_at dksX4_isDigit_0 12 rfl rfl)
theorem dX4_isDigit_13 : decode cX4_isDigit 13 = .ok (.goto 4, 3) := dk_167 0 4 (dk_at dksX4_isDigit_0 13 rfl rfl)
theorem dX4_isDigit_16 : decode cX4_isDigit 16 = .ok (.iconst 0, 1) := dk_3 (dk_at dksX4_isDigit_0 16 rfl rfl)
theorem dX4_isDigit_17 : decode cX4_isDigit 17 = .ok (.ireturn, 1) := dk_172 (dk_at dksX4_isDigit_0 17 rfl rfl)
abbrev cX4_statement : ByteArray := prog_19_method_39_code
def yX4_statement : MethodName := ⟨RX4, "statement", "()Z"⟩
def dkwX4_statement_11 : List UInt8 := [4, 3, 16, 99, 182, 0, 213, 172]
abbrev dktX4_statement_11 : List UInt8 := dkwX4_statement_11 ++ []
def dkwX4_statement_10 : List UInt8 := [42, 18, 229, 42, 180, 0, 54, 3, 3, 16, 10, 182, 0, 213, 167, 0, 17, 42, 18, 231, 42, 180, 0, 54]
abbrev dktX4_statement_10 : List UInt8 := dkwX4_statement_10 ++ dktX4_statement_11
def dkwX4_statement_9 : List UInt8 := [3, 16, 10, 182, 0, 209, 153, 0, 7, 4, 167, 0, 4, 3, 172, 42, 18, 229, 182, 0, 205, 153, 0, 20]
abbrev dktX4_statement_9 : List UInt8 := dkwX4_statement_9 ++ dktX4_statement_10
def dkwX4_statement_8 : List UInt8 := [42, 180, 0, 64, 3, 3, 5, 182, 0, 213, 153, 0, 27, 42, 42, 180, 0, 46, 42, 180, 0, 64, 3, 46]
abbrev dktX4_statement_8 : List UInt8 := dkwX4_statement_8 ++ dktX4_statement_9
def dkwX4_statement_7 : List UInt8 := [182, 0, 209, 153, 0, 7, 4, 167, 0, 4, 3, 172, 42, 18, 228, 182, 0, 205, 153, 0, 45, 42, 18, 228]
abbrev dktX4_statement_7 : List UInt8 := dkwX4_statement_7 ++ dktX4_statement_8
def dkwX4_statement_6 : List UInt8 := [42, 42, 180, 0, 40, 42, 180, 0, 64, 3, 46, 42, 180, 0, 43, 42, 180, 0, 64, 3, 46, 46, 7]
abbrev dktX4_statement_6 : List UInt8 := dkwX4_statement_6 ++ dktX4_statement_7
def dkwX4_statement_5 : List UInt8 := [18, 226, 182, 0, 205, 153, 0, 54, 42, 18, 226, 42, 180, 0, 64, 3, 3, 5, 182, 0, 213, 153, 0, 36]
abbrev dktX4_statement_5 : List UInt8 := dkwX4_statement_5 ++ dktX4_statement_6
def dkwX4_statement_4 : List UInt8 := [3, 16, 99, 182, 0, 221, 154, 0, 5, 3, 172, 42, 89, 180, 0, 85, 4, 96, 181, 0, 85, 4, 172, 42]
abbrev dktX4_statement_4 : List UInt8 := dkwX4_statement_4 ++ dktX4_statement_5
def dkwX4_statement_3 : List UInt8 := [154, 0, 5, 3, 172, 42, 18, 219, 43, 5, 4, 16, 99, 182, 0, 221, 153, 0, 17, 42, 18, 224, 43, 6]
abbrev dktX4_statement_3 : List UInt8 := dkwX4_statement_3 ++ dktX4_statement_4
def dkwX4_statement_2 : List UInt8 := [18, 217, 43, 3, 3, 5, 182, 0, 213, 153, 0, 16, 42, 18, 218, 43, 4, 3, 28, 182, 0, 213]
abbrev dktX4_statement_2 : List UInt8 := dkwX4_statement_2 ++ dktX4_statement_3
def dkwX4_statement_1 : List UInt8 := [180, 0, 85, 50, 76, 16, 100, 42, 182, 0, 143, 100, 61, 43, 5, 16, 10, 79, 43, 6, 8, 79, 42]
abbrev dktX4_statement_1 : List UInt8 := dkwX4_statement_1 ++ dktX4_statement_2
def dkwX4_statement_0 : List UInt8 := [42, 18, 217, 182, 0, 205, 153, 0, 109, 42, 180, 0, 85, 16, 6, 162, 0, 100, 42, 180, 0, 51, 42]
abbrev dktX4_statement_0 : List UInt8 := dkwX4_statement_0 ++ dktX4_statement_1
theorem dksX4_statement_0 : cX4_statement.data.toList.drop 0 = dktX4_statement_0 := by decide +kernel
theorem dksX4_statement_1 : cX4_statement.data.toList.drop 23 = dktX4_statement_1 := dk_seg dksX4_statement_0 23 rfl rfl
theorem dksX4_statement_2 : cX4_statement.data.toList.drop 46 = dktX4_statement_2 := dk_seg dksX4_statement_1 23 rfl rfl
theorem dksX4_statement_3 : cX4_statement.data.toList.drop 68 = dktX4_statement_3 := dk_seg dksX4_statement_2 22 rfl rfl
theorem dksX4_statement_4 : cX4_statement.data.toList.drop 92 = dktX4_statement_4 := dk_seg dksX4_statement_3 24 rfl rfl
theorem dksX4_statement_5 : cX4_statement.data.toList.drop 116 = dktX4_statement_5 := dk_seg dksX4_statement_4 24 rfl rfl
theorem dksX4_statement_6 : cX4_statement.data.toList.drop 140 = dktX4_statement_6 := dk_seg dksX4_statement_5 24 rfl rfl
theorem dksX4_statement_7 : cX4_statement.data.toList.drop 163 = dktX4_statement_7 := dk_seg dksX4_statement_6 23 rfl rfl
theorem dksX4_statement_8 : cX4_statement.data.toList.drop 187 = dktX4_statement_8 := dk_seg dksX4_statement_7 24 rfl rfl
theorem dksX4_statement_9 : cX4_statement.data.toList.drop 211 = dktX4_statement_9 := dk_seg dksX4_statement_8 24 rfl rfl
theorem dksX4_statement_10 : cX4_statement.data.toList.drop 235 = dktX4_statement_10 := dk_seg dksX4_statement_9 24 rfl rfl
theorem dksX4_statement_11 : cX4_statement.data.toList.drop 259 = dktX4_statement_11 := dk_seg dksX4_statement_10 24 rfl rfl
theorem dX4_statement_0 : decode cX4_statement 0 = .ok (.aload_n 0, 1) := dk_42 (dk_at dksX4_statement_0 0 rfl rfl)
theorem dX4_statement_1 : decode cX4_statement 1 = .ok (.ldc 217, 2) := dk_18 217 (dk_at dksX4_statement_0 1 rfl rfl)
theorem dX4_statement_3 : decode cX4_statement 3 = .ok (.invokevirtual 205, 3) := dk_182 0 205 (dk_at dksX4_statement_0 3 rfl rfl)
theorem dX4_statement_6 : decode cX4_statement 6 = .ok (.ifCond .eq 109, 3) := dk_153 0 109 (dk_at dksX4_statement_0 6 rfl rfl)
theorem dX4_statement_9 : decode cX4_statement 9 = .ok (.aload_n 0, 1) := dk_42 (dk_at dksX4_statement_0 9 rfl rfl)
theorem dX4_statement_10 : decode cX4_statement 10 = .ok (.getfield 85, 3) := dk_180 0 85 (dk_at dksX4_statement_0 10 rfl rfl)
theorem dX4_statement_13 : decode cX4_statement 13 = .ok (.bipush 6, 2) := dk_16 6 (dk_at dksX4_statement_0 13 rfl rfl)
theorem dX4_statement_15 : decode cX4_statement 15 = .ok (.if_icmp .ge 100, 3) := dk_162 0 100 (dk_at dksX4_statement_0 15 rfl rfl)
theorem dX4_statement_18 : decode cX4_statement 18 = .ok (.aload_n 0, 1) := dk_42 (dk_at dksX4_statement_0 18 rfl rfl)
theorem dX4_statement_19 : decode cX4_statement 19 = .ok (.getfield 51, 3) := dk_180 0 51 (dk_at dksX4_statement_0 19 rfl rfl)
theorem dX4_statement_22 : decode cX4_statement 22 = .ok (.aload_n 0, 1) := dk_42 (dk_at dksX4_statement_0 22 rfl rfl)
theorem dX4_statement_23 : decode cX4_statement 23 = .ok (.getfield 85, 3) := dk_180 0 85 (dk_at dksX4_statement_1 0 rfl rfl)
theorem dX4_statement_26 : decode cX4_statement 26 = .ok (.aaload, 1) := dk_50 (dk_at dksX4_statement_1 3 rfl rfl)
theorem dX4_statement_27 : decode cX4_statement 27 = .ok (.astore_n 1, 1) := dk_76 (dk_at dksX4_statement_1 4 rfl rfl)
theorem dX4_statement_28 : decode cX4_statement 28 = .ok (.bipush 100, 2) := dk_16 100 (dk_at dksX4_statement_1 5 rfl rfl)
theorem dX4_statement_30 : decode cX4_statement 30 = .ok (.aload_n 0, 1) := dk_42 (dk_at dksX4_statement_1 7 rfl rfl)
theorem dX4_statement_31 : decode cX4_statement 31 = .ok (.invokevirtual 143, 3) := dk_182 0 143 (dk_at dksX4_statement_1 8 rfl rfl)
theorem dX4_statement_34 : decode cX4_statement 34 = .ok (.isub, 1) := dk_100 (dk_at dksX4_statement_1 11 rfl rfl)
theorem dX4_statement_35 : decode cX4_statement 35 = .ok (.istore_n 2, 1) := dk_61 (dk_at dksX4_statement_1 12 rfl rfl)
theorem dX4_statement_36 : decode cX4_statement 36 = .ok (.aload_n 1, 1) := dk_43 (dk_at dksX4_statement_1 13 rfl rfl)
theorem dX4_statement_37 : decode cX4_statement 37 = .ok (.iconst 2, 1) := dk_5 (dk_at dksX4_statement_1 14 rfl rfl)
theorem dX4_statement_38 : decode cX4_statement 38 = .ok (.bipush 10, 2) := dk_16 10 (dk_at dksX4_statement_1 15 rfl rfl)
theorem dX4_statement_40 : decode cX4_statement 40 = .ok (.iastore, 1) := dk_79 (dk_at dksX4_statement_1 17 rfl rfl)
theorem dX4_statement_41 : decode cX4_statement 41 = .ok (.aload_n 1, 1) := dk_43 (dk_at dksX4_statement_1 18 rfl rfl)
theorem dX4_statement_42 : decode cX4_statement 42 = .ok (.iconst 3, 1) := dk_6 (dk_at dksX4_statement_1 19 rfl rfl)
theorem dX4_statement_43 : decode cX4_statement 43 = .ok (.iconst 5, 1) := dk_8 (dk_at dksX4_statement_1 20 rfl rfl)
theorem dX4_statement_44 : decode cX4_statement 44 = .ok (.iastore, 1) := dk_79 (dk_at dksX4_statement_1 21 rfl rfl)
theorem dX4_statement_45 : decode cX4_statement 45 = .ok (.aload_n 0, 1) := dk_42 (dk_at dksX4_statement_1 22 rfl rfl)
theorem dX4_statement_46 : decode cX4_statement 46 = .ok (.ldc 217, 2) := dk_18 217 (dk_at dksX4_statement_2 0 rfl rfl)
theorem dX4_statement_48 : decode cX4_statement 48 = .ok (.aload_n 1, 1) := dk_43 (dk_at dksX4_statement_2 2 rfl rfl)
theorem dX4_statement_49 : decode cX4_statement 49 = .ok (.iconst 0, 1) := dk_3 (dk_at dksX4_statement_2 3 rfl rfl)
theorem dX4_statement_50 : decode cX4_statement 50 = .ok (.iconst 0, 1) := dk_3 (dk_at dksX4_statement_2 4 rfl rfl)
theorem dX4_statement_51 : decode cX4_statement 51 = .ok (.iconst 2, 1) := dk_5 (dk_at dksX4_statement_2 5 rfl rfl)
theorem dX4_statement_52 : decode cX4_statement 52 = .ok (.invokevirtual 213, 3) := dk_182 0 213 (dk_at dksX4_statement_2 6 rfl rfl)
theorem dX4_statement_55 : decode cX4_statement 55 = .ok (.ifCond .eq 16, 3) := dk_153 0 16 (dk_at dksX4_statement_2 9 rfl rfl)
theorem dX4_statement_58 : decode cX4_statement 58 = .ok (.aload_n 0, 1) := dk_42 (dk_at dksX4_statement_2 12 rfl rfl)
theorem dX4_statement_59 : decode cX4_statement 59 = .ok (.ldc 218, 2) := dk_18 218 (dk_at dksX4_statement_2 13 rfl rfl)
theorem dX4_statement_61 : decode cX4_statement 61 = .ok (.aload_n 1, 1) := dk_43 (dk_at dksX4_statement_2 15 rfl rfl)
theorem dX4_statement_62 : decode cX4_statement 62 = .ok (.iconst 1, 1) := dk_4 (dk_at dksX4_statement_2 16 rfl rfl)
theorem dX4_statement_63 : decode cX4_statement 63 = .ok (.iconst 0, 1) := dk_3 (dk_at dksX4_statement_2 17 rfl rfl)
theorem dX4_statement_64 : decode cX4_statement 64 = .ok (.iload_n 2, 1) := dk_28 (dk_at dksX4_statement_2 18 rfl rfl)
theorem dX4_statement_65 : decode cX4_statement 65 = .ok (.invokevirtual 213, 3) := dk_182 0 213 (dk_at dksX4_statement_2 19 rfl rfl)
theorem dX4_statement_68 : decode cX4_statement 68 = .ok (.ifCond .ne 5, 3) := dk_154 0 5 (dk_at dksX4_statement_3 0 rfl rfl)
theorem dX4_statement_71 : decode cX4_statement 71 = .ok (.iconst 0, 1) := dk_3 (dk_at dksX4_statement_3 3 rfl rfl)
theorem dX4_statement_72 : decode cX4_statement 72 = .ok (.ireturn, 1) := dk_172 (dk_at dksX4_statement_3 4 rfl rfl)
theorem dX4_statement_73 : decode cX4_statement 73 = .ok (.aload_n 0, 1) := dk_42 (dk_at dksX4_statement_3 5 rfl rfl)
theorem dX4_statement_74 : decode cX4_statement 74 = .ok (.ldc 219, 2) := dk_18 219 (dk_at dksX4_statement_3 6 rfl rfl)
theorem dX4_statement_76 : decode cX4_statement 76 = .ok (.aload_n 1, 1) := dk_43 (dk_at dksX4_statement_3 8 rfl rfl)
theorem dX4_statement_77 : decode cX4_statement 77 = .ok (.iconst 2, 1) := dk_5 (dk_at dksX4_statement_3 9 rfl rfl)
theorem dX4_statement_78 : decode cX4_statement 78 = .ok (.iconst 1, 1) := dk_4 (dk_at dksX4_statement_3 10 rfl rfl)
theorem dX4_statement_79 : decode cX4_statement 79 = .ok (.bipush 99, 2) := dk_16 99 (dk_at dksX4_statement_3 11 rfl rfl)
theorem dX4_statement_81 : decode cX4_statement 81 = .ok (.invokevirtual 221, 3) := dk_182 0 221 (dk_at dksX4_statement_3 13 rfl rfl)
theorem dX4_statement_84 : decode cX4_statement 84 = .ok (.ifCond .eq 17, 3) := dk_153 0 17 (dk_at dksX4_statement_3 16 rfl rfl)
theorem dX4_statement_87 : decode cX4_statement 87 = .ok (.aload_n 0, 1) := dk_42 (dk_at dksX4_statement_3 19 rfl rfl)
theorem dX4_statement_88 : decode cX4_statement 88 = .ok (.ldc 224, 2) := dk_18 224 (dk_at dksX4_statement_3 20 rfl rfl)
theorem dX4_statement_90 : decode cX4_statement 90 = .ok (.aload_n 1, 1) := dk_43 (dk_at dksX4_statement_3 22 rfl rfl)
theorem dX4_statement_91 : decode cX4_statement 91 = .ok (.iconst 3, 1) := dk_6 (dk_at dksX4_statement_3 23 rfl rfl)
theorem dX4_statement_92 : decode cX4_statement 92 = .ok (.iconst 0, 1) := dk_3 (dk_at dksX4_statement_4 0 rfl rfl)
theorem dX4_statement_93 : decode cX4_statement 93 = .ok (.bipush 99, 2) := dk_16 99 (dk_at dksX4_statement_4 1 rfl rfl)
theorem dX4_statement_95 : decode cX4_statement 95 = .ok (.invokevirtual 221, 3) := dk_182 0 221 (dk_at dksX4_statement_4 3 rfl rfl)
theorem dX4_statement_98 : decode cX4_statement 98 = .ok (.ifCond .ne 5, 3) := dk_154 0 5 (dk_at dksX4_statement_4 6 rfl rfl)
theorem dX4_statement_101 : decode cX4_statement 101 = .ok (.iconst 0, 1) := dk_3 (dk_at dksX4_statement_4 9 rfl rfl)
theorem dX4_statement_102 : decode cX4_statement 102 = .ok (.ireturn, 1) := dk_172 (dk_at dksX4_statement_4 10 rfl rfl)
theorem dX4_statement_103 : decode cX4_statement 103 = .ok (.aload_n 0, 1) := dk_42 (dk_at dksX4_statement_4 11 rfl rfl)
theorem dX4_statement_104 : decode cX4_statement 104 = .ok (.dup, 1) := dk_89 (dk_at dksX4_statement_4 12 rfl rfl)
theorem dX4_statement_105 : decode cX4_statement 105 = .ok (.getfield 85, 3) := dk_180 0 85 (dk_at dksX4_statement_4 13 rfl rfl)
theorem dX4_statement_108 : decode cX4_statement 108 = .ok (.iconst 1, 1) := dk_4 (dk_at dksX4_statement_4 16 rfl rfl)
theorem dX4_statement_109 : decode cX4_statement 109 = .ok (.iadd, 1) := dk_96 (dk_at dksX4_statement_4 17 rfl rfl)
theorem dX4_statement_110 : decode cX4_statement 110 = .ok (.putfield 85, 3) := dk_181 0 85 (dk_at dksX4_statement_4 18 rfl rfl)
theorem dX4_statement_113 : decode cX4_statement 113 = .ok (.iconst 1, 1) := dk_4 (dk_at dksX4_statement_4 21 rfl rfl)
theorem dX4_statement_114 : decode cX4_statement 114 = .ok (.ireturn, 1) := dk_172 (dk_at dksX4_statement_4 22 rfl rfl)
theorem dX4_statement_115 : decode cX4_statement 115 = .ok (.aload_n 0, 1) := dk_42 (dk_at dksX4_statement_4 23 rfl rfl)
theorem dX4_statement_116 : decode cX4_statement 116 = .ok (.ldc 226, 2) := dk_18 226 (dk_at dksX4_statement_5 0 rfl rfl)
theorem dX4_statement_118 : decode cX4_statement 118 = .ok (.invokevirtual 205, 3) := dk_182 0 205 (dk_at dksX4_statement_5 2 rfl rfl)
theorem dX4_statement_121 : decode cX4_statement 121 = .ok (.ifCond .eq 54, 3) := dk_153 0 54 (dk_at dksX4_statement_5 5 rfl rfl)
theorem dX4_statement_124 : decode cX4_statement 124 = .ok (.aload_n 0, 1) := dk_42 (dk_at dksX4_statement_5 8 rfl rfl)
theorem dX4_statement_125 : decode cX4_statement 125 = .ok (.ldc 226, 2) := dk_18 226 (dk_at dksX4_statement_5 9 rfl rfl)
theorem dX4_statement_127 : decode cX4_statement 127 = .ok (.aload_n 0, 1) := dk_42 (dk_at dksX4_statement_5 11 rfl rfl)
theorem dX4_statement_128 : decode cX4_statement 128 = .ok (.getfield 64, 3) := dk_180 0 64 (dk_at dksX4_statement_5 12 rfl rfl)
theorem dX4_statement_131 : decode cX4_statement 131 = .ok (.iconst 0, 1) := dk_3 (dk_at dksX4_statement_5 15 rfl rfl)
theorem dX4_statement_132 : decode cX4_statement 132 = .ok (.iconst 0, 1) := dk_3 (dk_at dksX4_statement_5 16 rfl rfl)
theorem dX4_statement_133 : decode cX4_statement 133 = .ok (.iconst 2, 1) := dk_5 (dk_at dksX4_statement_5 17 rfl rfl)
theorem dX4_statement_134 : decode cX4_statement 134 = .ok (.invokevirtual 213, 3) := dk_182 0 213 (dk_at dksX4_statement_5 18 rfl rfl)
theorem dX4_statement_137 : decode cX4_statement 137 = .ok (.ifCond .eq 36, 3) := dk_153 0 36 (dk_at dksX4_statement_5 21 rfl rfl)
theorem dX4_statement_140 : decode cX4_statement 140 = .ok (.aload_n 0, 1) := dk_42 (dk_at dksX4_statement_6 0 rfl rfl)
theorem dX4_statement_141 : decode cX4_statement 141 = .ok (.aload_n 0, 1) := dk_42 (dk_at dksX4_statement_6 1 rfl rfl)
theorem dX4_statement_142 : decode cX4_statement 142 = .ok (.getfield 40, 3) := dk_180 0 40 (dk_at dksX4_statement_6 2 rfl rfl)
theorem dX4_statement_145 : decode cX4_statement 145 = .ok (.aload_n 0, 1) := dk_42 (dk_at dksX4_statement_6 5 rfl rfl)
theorem dX4_statement_146 : decode cX4_statement 146 = .ok (.getfield 64, 3) := dk_180 0 64 (dk_at dksX4_statement_6 6 rfl rfl)
theorem dX4_statement_149 : decode cX4_statement 149 = .ok (.iconst 0, 1) := dk_3 (dk_at dksX4_statement_6 9 rfl rfl)
theorem dX4_statement_150 : decode cX4_statement 150 = .ok (.iaload, 1) := dk_46 (dk_at dksX4_statement_6 10 rfl rfl)
theorem dX4_statement_151 : decode cX4_statement 151 = .ok (.aload_n 0, 1) := dk_42 (dk_at dksX4_statement_6 11 rfl rfl)
theorem dX4_statement_152 : decode cX4_statement 152 = .ok (.getfield 43, 3) := dk_180 0 43 (dk_at dksX4_statement_6 12 rfl rfl)
theorem dX4_statement_155 : decode cX4_statement 155 = .ok (.aload_n 0, 1) := dk_42 (dk_at dksX4_statement_6 15 rfl rfl)
theorem dX4_statement_156 : decode cX4_statement 156 = .ok (.getfield 64, 3) := dk_180 0 64 (dk_at dksX4_statement_6 16 rfl rfl)
theorem dX4_statement_159 : decode cX4_statement 159 = .ok (.iconst 0, 1) := dk_3 (dk_at dksX4_statement_6 19 rfl rfl)
theorem dX4_statement_160 : decode cX4_statement 160 = .ok (.iaload, 1) := dk_46 (dk_at dksX4_statement_6 20 rfl rfl)
theorem dX4_statement_161 : decode cX4_statement 161 = .ok (.iaload, 1) := dk_46 (dk_at dksX4_statement_6 21 rfl rfl)
theorem dX4_statement_162 : decode cX4_statement 162 = .ok (.iconst 4, 1) := dk_7 (dk_at dksX4_statement_6 22 rfl rfl)
theorem dX4_statement_163 : decode cX4_statement 163 = .ok (.invokevirtual 209, 3) := dk_182 0 209 (dk_at dksX4_statement_7 0 rfl rfl)
theorem dX4_statement_166 : decode cX4_statement 166 = .ok (.ifCond .eq 7, 3) := dk_153 0 7 (dk_at dksX4_statement_7 3 rfl rfl)
theorem dX4_statement_169 : decode cX4_statement 169 = .ok (.iconst 1, 1) := dk_4 (dk_at dksX4_statement_7 6 rfl rfl)
theorem dX4_statement_170 : decode cX4_statement 170 = .ok (.goto 4, 3) := dk_167 0 4 (dk_at dksX4_statement_7 7 rfl rfl)
theorem dX4_statement_173 : decode cX4_statement 173 = .ok (.iconst 0, 1) := dk_3 (dk_at dksX4_statement_7 10 rfl rfl)
theorem dX4_statement_174 : decode cX4_statement 174 = .ok (.ireturn, 1) := dk_172 (dk_at dksX4_statement_7 11 rfl rfl)
theorem dX4_statement_175 : decode cX4_statement 175 = .ok (.aload_n 0, 1) := dk_42 (dk_at dksX4_statement_7 12 rfl rfl)
theorem dX4_statement_176 : decode cX4_statement 176 = .ok (.ldc 228, 2) := dk_18 228 (dk_at dksX4_statement_7 13 rfl rfl)
theorem dX4_statement_178 : decode cX4_statement 178 = .ok (.invokevirtual 205, 3) := dk_182 0 205 (dk_at dksX4_statement_7 15 rfl rfl)
theorem dX4_statement_181 : decode cX4_statement 181 = .ok (.ifCond .eq 45, 3) := dk_153 0 45 (dk_at dksX4_statement_7 18 rfl rfl)
theorem dX4_statement_184 : decode cX4_statement 184 = .ok (.aload_n 0, 1) := dk_42 (dk_at dksX4_statement_7 21 rfl rfl)
theorem dX4_statement_185 : decode cX4_statement 185 = .ok (.ldc 228, 2) := dk_18 228 (dk_at dksX4_statement_7 22 rfl rfl)
theorem dX4_statement_187 : decode cX4_statement 187 = .ok (.aload_n 0, 1) := dk_42 (dk_at dksX4_statement_8 0 rfl rfl)
theorem dX4_statement_188 : decode cX4_statement 188 = .ok (.getfield 64, 3) := dk_180 0 64 (dk_at dksX4_statement_8 1 rfl rfl)
theorem dX4_statement_191 : decode cX4_statement 191 = .ok (.iconst 0, 1) := dk_3 (dk_at dksX4_statement_8 4 rfl rfl)
theorem dX4_statement_192 : decode cX4_statement 192 = .ok (.iconst 0, 1) := dk_3 (dk_at dksX4_statement_8 5 rfl rfl)
theorem dX4_statement_193 : decode cX4_statement 193 = .ok (.iconst 2, 1) := dk_5 (dk_at dksX4_statement_8 6 rfl rfl)
theorem dX4_statement_194 : decode cX4_statement 194 = .ok (.invokevirtual 213, 3) := dk_182 0 213 (dk_at dksX4_statement_8 7 rfl rfl)
theorem dX4_statement_197 : decode cX4_statement 197 = .ok (.ifCond .eq 27, 3) := dk_153 0 27 (dk_at dksX4_statement_8 10 rfl rfl)
theorem dX4_statement_200 : decode cX4_statement 200 = .ok (.aload_n 0, 1) := dk_42 (dk_at dksX4_statement_8 13 rfl rfl)
theorem dX4_statement_201 : decode cX4_statement 201 = .ok (.aload_n 0, 1) := dk_42 (dk_at dksX4_statement_8 14 rfl rfl)
theorem dX4_statement_202 : decode cX4_statement 202 = .ok (.getfield 46, 3) := dk_180 0 46 (dk_at dksX4_statement_8 15 rfl rfl)
theorem dX4_statement_205 : decode cX4_statement 205 = .ok (.aload_n 0, 1) := dk_42 (dk_at dksX4_statement_8 18 rfl rfl)
theorem dX4_statement_206 : decode cX4_statement 206 = .ok (.getfield 64, 3) := dk_180 0 64 (dk_at dksX4_statement_8 19 rfl rfl)
theorem dX4_statement_209 : decode cX4_statement 209 = .ok (.iconst 0, 1) := dk_3 (dk_at dksX4_statement_8 22 rfl rfl)
theorem dX4_statement_210 : decode cX4_statement 210 = .ok (.iaload, 1) := dk_46 (dk_at dksX4_statement_8 23 rfl rfl)
theorem dX4_statement_211 : decode cX4_statement 211 = .ok (.iconst 0, 1) := dk_3 (dk_at dksX4_statement_9 0 rfl rfl)
theorem dX4_statement_212 : decode cX4_statement 212 = .ok (.bipush 10, 2) := dk_16 10 (dk_at dksX4_statement_9 1 rfl rfl)
theorem dX4_statement_214 : decode cX4_statement 214 = .ok (.invokevirtual 209, 3) := dk_182 0 209 (dk_at dksX4_statement_9 3 rfl rfl)
theorem dX4_statement_217 : decode cX4_statement 217 = .ok (.ifCond .eq 7, 3) := dk_153 0 7 (dk_at dksX4_statement_9 6 rfl rfl)
theorem dX4_statement_220 : decode cX4_statement 220 = .ok (.iconst 1, 1) := dk_4 (dk_at dksX4_statement_9 9 rfl rfl)
theorem dX4_statement_221 : decode cX4_statement 221 = .ok (.goto 4, 3) := dk_167 0 4 (dk_at dksX4_statement_9 10 rfl rfl)
theorem dX4_statement_224 : decode cX4_statement 224 = .ok (.iconst 0, 1) := dk_3 (dk_at dksX4_statement_9 13 rfl rfl)
theorem dX4_statement_225 : decode cX4_statement 225 = .ok (.ireturn, 1) := dk_172 (dk_at dksX4_statement_9 14 rfl rfl)
theorem dX4_statement_226 : decode cX4_statement 226 = .ok (.aload_n 0, 1) := dk_42 (dk_at dksX4_statement_9 15 rfl rfl)
theorem dX4_statement_227 : decode cX4_statement 227 = .ok (.ldc 229, 2) := dk_18 229 (dk_at dksX4_statement_9 16 rfl rfl)
theorem dX4_statement_229 : decode cX4_statement 229 = .ok (.invokevirtual 205, 3) := dk_182 0 205 (dk_at dksX4_statement_9 18 rfl rfl)
theorem dX4_statement_232 : decode cX4_statement 232 = .ok (.ifCond .eq 20, 3) := dk_153 0 20 (dk_at dksX4_statement_9 21 rfl rfl)
theorem dX4_statement_235 : decode cX4_statement 235 = .ok (.aload_n 0, 1) := dk_42 (dk_at dksX4_statement_10 0 rfl rfl)
theorem dX4_statement_236 : decode cX4_statement 236 = .ok (.ldc 229, 2) := dk_18 229 (dk_at dksX4_statement_10 1 rfl rfl)
theorem dX4_statement_238 : decode cX4_statement 238 = .ok (.aload_n 0, 1) := dk_42 (dk_at dksX4_statement_10 3 rfl rfl)
theorem dX4_statement_239 : decode cX4_statement 239 = .ok (.getfield 54, 3) := dk_180 0 54 (dk_at dksX4_statement_10 4 rfl rfl)
theorem dX4_statement_242 : decode cX4_statement 242 = .ok (.iconst 0, 1) := dk_3 (dk_at dksX4_statement_10 7 rfl rfl)
theorem dX4_statement_243 : decode cX4_statement 243 = .ok (.iconst 0, 1) := dk_3 (dk_at dksX4_statement_10 8 rfl rfl)
theorem dX4_statement_244 : decode cX4_statement 244 = .ok (.bipush 10, 2) := dk_16 10 (dk_at dksX4_statement_10 9 rfl rfl)
theorem dX4_statement_246 : decode cX4_statement 246 = .ok (.invokevirtual 213, 3) := dk_182 0 213 (dk_at dksX4_statement_10 11 rfl rfl)
theorem dX4_statement_249 : decode cX4_statement 249 = .ok (.goto 17, 3) := dk_167 0 17 (dk_at dksX4_statement_10 14 rfl rfl)
theorem dX4_statement_252 : decode cX4_statement 252 = .ok (.aload_n 0, 1) := dk_42 (dk_at dksX4_statement_10 17 rfl rfl)
theorem dX4_statement_253 : decode cX4_statement 253 = .ok (.ldc 231, 2) := dk_18 231 (dk_at dksX4_statement_10 18 rfl rfl)
theorem dX4_statement_255 : decode cX4_statement 255 = .ok (.aload_n 0, 1) := dk_42 (dk_at dksX4_statement_10 20 rfl rfl)
theorem dX4_statement_256 : decode cX4_statement 256 = .ok (.getfield 54, 3) := dk_180 0 54 (dk_at dksX4_statement_10 21 rfl rfl)
theorem dX4_statement_259 : decode cX4_statement 259 = .ok (.iconst 1, 1) := dk_4 (dk_at dksX4_statement_11 0 rfl rfl)
theorem dX4_statement_260 : decode cX4_statement 260 = .ok (.iconst 0, 1) := dk_3 (dk_at dksX4_statement_11 1 rfl rfl)
theorem dX4_statement_261 : decode cX4_statement 261 = .ok (.bipush 99, 2) := dk_16 99 (dk_at dksX4_statement_11 2 rfl rfl)
theorem dX4_statement_263 : decode cX4_statement 263 = .ok (.invokevirtual 213, 3) := dk_182 0 213 (dk_at dksX4_statement_11 4 rfl rfl)
theorem dX4_statement_266 : decode cX4_statement 266 = .ok (.ireturn, 1) := dk_172 (dk_at dksX4_statement_11 7 rfl rfl)
abbrev cX4_isWord : ByteArray := prog_19_method_35_code
def yX4_isWord : MethodName := ⟨RX4, "isWord", "(Ljava/lang/String;)Z"⟩
def dkwX4_isWord_2 : List UInt8 := [28, 182, 0, 194, 159, 0, 5, 3, 172, 132, 2, 1, 167, 255, 224, 4, 172]
abbrev dktX4_isWord_2 : List UInt8 := dkwX4_isWord_2 ++ []
def dkwX4_isWord_1 : List UInt8 := [3, 172, 3, 61, 28, 43, 182, 0, 189, 162, 0, 30, 42, 180, 0, 34, 42, 180, 0, 165, 28, 96, 46, 43]
abbrev dktX4_isWord_1 : List UInt8 := dkwX4_isWord_1 ++ dktX4_isWord_2
def dkwX4_isWord_0 : List UInt8 := [42, 180, 0, 172, 4, 160, 0, 19, 42, 180, 0, 162, 42, 180, 0, 165, 100, 43, 182, 0, 189, 159, 0, 5]
abbrev dktX4_isWord_0 : List UInt8 := dkwX4_isWord_0 ++ dktX4_isWord_1
theorem dksX4_isWord_0 : cX4_isWord.data.toList.drop 0 = dktX4_isWord_0 := by decide +kernel
theorem dksX4_isWord_1 : cX4_isWord.data.toList.drop 24 = dktX4_isWord_1 := dk_seg dksX4_isWord_0 24 rfl rfl
theorem dksX4_isWord_2 : cX4_isWord.data.toList.drop 48 = dktX4_isWord_2 := dk_seg dksX4_isWord_1 24 rfl rfl
theorem dX4_isWord_0 : decode cX4_isWord 0 = .ok (.aload_n 0, 1) := dk_42 (dk_at dksX4_isWord_0 0 rfl rfl)
theorem dX4_isWord_1 : decode cX4_isWord 1 = .ok (.getfield 172, 3) := dk_180 0 172 (dk_at dksX4_isWord_0 1 rfl rfl)
theorem dX4_isWord_4 : decode cX4_isWord 4 = .ok (.iconst 1, 1) := dk_4 (dk_at dksX4_isWord_0 4 rfl rfl)
theorem dX4_isWord_5 : decode cX4_isWord 5 = .ok (.if_icmp .ne 19, 3) := dk_160 0 19 (dk_at dksX4_isWord_0 5 rfl rfl)
theorem dX4_isWord_8 : decode cX4_isWord 8 = .ok (.aload_n 0, 1) := dk_42 (dk_at dksX4_isWord_0 8 rfl rfl)
theorem dX4_isWord_9 : decode cX4_isWord 9 = .ok (.getfield 162, 3) := dk_180 0 162 (dk_at dksX4_isWord_0 9 rfl rfl)
theorem dX4_isWord_12 : decode cX4_isWord 12 = .ok (.aload_n 0, 1) := dk_42 (dk_at dksX4_isWord_0 12 rfl rfl)
theorem dX4_isWord_13 : decode cX4_isWord 13 = .ok (.getfield 165, 3) := dk_180 0 165 (dk_at dksX4_isWord_0 13 rfl rfl)
theorem dX4_isWord_16 : decode cX4_isWord 16 = .ok (.isub, 1) := dk_100 (dk_at dksX4_isWord_0 16 rfl rfl)
theorem dX4_isWord_17 : decode cX4_isWord 17 = .ok (.aload_n 1, 1) := dk_43 (dk_at dksX4_isWord_0 17 rfl rfl)
theorem dX4_isWord_18 : decode cX4_isWord 18 = .ok (.invokevirtual 189, 3) := dk_182 0 189 (dk_at dksX4_isWord_0 18 rfl rfl)
theorem dX4_isWord_21 : decode cX4_isWord 21 = .ok (.if_icmp .eq 5, 3) := dk_159 0 5 (dk_at dksX4_isWord_0 21 rfl rfl)
theorem dX4_isWord_24 : decode cX4_isWord 24 = .ok (.iconst 0, 1) := dk_3 (dk_at dksX4_isWord_1 0 rfl rfl)
theorem dX4_isWord_25 : decode cX4_isWord 25 = .ok (.ireturn, 1) := dk_172 (dk_at dksX4_isWord_1 1 rfl rfl)
theorem dX4_isWord_26 : decode cX4_isWord 26 = .ok (.iconst 0, 1) := dk_3 (dk_at dksX4_isWord_1 2 rfl rfl)
theorem dX4_isWord_27 : decode cX4_isWord 27 = .ok (.istore_n 2, 1) := dk_61 (dk_at dksX4_isWord_1 3 rfl rfl)
theorem dX4_isWord_28 : decode cX4_isWord 28 = .ok (.iload_n 2, 1) := dk_28 (dk_at dksX4_isWord_1 4 rfl rfl)
theorem dX4_isWord_29 : decode cX4_isWord 29 = .ok (.aload_n 1, 1) := dk_43 (dk_at dksX4_isWord_1 5 rfl rfl)
theorem dX4_isWord_30 : decode cX4_isWord 30 = .ok (.invokevirtual 189, 3) := dk_182 0 189 (dk_at dksX4_isWord_1 6 rfl rfl)
theorem dX4_isWord_33 : decode cX4_isWord 33 = .ok (.if_icmp .ge 30, 3) := dk_162 0 30 (dk_at dksX4_isWord_1 9 rfl rfl)
theorem dX4_isWord_36 : decode cX4_isWord 36 = .ok (.aload_n 0, 1) := dk_42 (dk_at dksX4_isWord_1 12 rfl rfl)
theorem dX4_isWord_37 : decode cX4_isWord 37 = .ok (.getfield 34, 3) := dk_180 0 34 (dk_at dksX4_isWord_1 13 rfl rfl)
theorem dX4_isWord_40 : decode cX4_isWord 40 = .ok (.aload_n 0, 1) := dk_42 (dk_at dksX4_isWord_1 16 rfl rfl)
theorem dX4_isWord_41 : decode cX4_isWord 41 = .ok (.getfield 165, 3) := dk_180 0 165 (dk_at dksX4_isWord_1 17 rfl rfl)
theorem dX4_isWord_44 : decode cX4_isWord 44 = .ok (.iload_n 2, 1) := dk_28 (dk_at dksX4_isWord_1 20 rfl rfl)
theorem dX4_isWord_45 : decode cX4_isWord 45 = .ok (.iadd, 1) := dk_96 (dk_at dksX4_isWord_1 21 rfl rfl)
theorem dX4_isWord_46 : decode cX4_isWord 46 = .ok (.iaload, 1) := dk_46 (dk_at dksX4_isWord_1 22 rfl rfl)
theorem dX4_isWord_47 : decode cX4_isWord 47 = .ok (.aload_n 1, 1) := dk_43 (dk_at dksX4_isWord_1 23 rfl rfl)
theorem dX4_isWord_48 : decode cX4_isWord 48 = .ok (.iload_n 2, 1) := dk_28 (dk_at dksX4_isWord_2 0 rfl rfl)
theorem dX4_isWord_49 : decode cX4_isWord 49 = .ok (.invokevirtual 194, 3) := dk_182 0 194 (dk_at dksX4_isWord_2 1 rfl rfl)
theorem dX4_isWord_52 : decode cX4_isWord 52 = .ok (.if_icmp .eq 5, 3) := dk_159 0 5 (dk_at dksX4_isWord_2 4 rfl rfl)
theorem dX4_isWord_55 : decode cX4_isWord 55 = .ok (.iconst 0, 1) := dk_3 (dk_at dksX4_isWord_2 7 rfl rfl)
theorem dX4_isWord_56 : decode cX4_isWord 56 = .ok (.ireturn, 1) := dk_172 (dk_at dksX4_isWord_2 8 rfl rfl)
theorem dX4_isWord_57 : decode cX4_isWord 57 = .ok (.iinc 2 1, 3) := dk_132 2 1 (dk_at dksX4_isWord_2 9 rfl rfl)
theorem dX4_isWord_60 : decode cX4_isWord 60 = .ok (.goto (-32), 3) := dk_167 255 224 (dk_at dksX4_isWord_2 12 rfl rfl)
theorem dX4_isWord_63 : decode cX4_isWord 63 = .ok (.iconst 1, 1) := dk_4 (dk_at dksX4_isWord_2 15 rfl rfl)
theorem dX4_isWord_64 : decode cX4_isWord 64 = .ok (.ireturn, 1) := dk_172 (dk_at dksX4_isWord_2 16 rfl rfl)
abbrev cX4_tells : ByteArray := prog_19_method_37_code
def yX4_tells : MethodName := ⟨RX4, "tells", "(Ljava/lang/String;[IIII)Z"⟩
def dkwX4_tells_1 : List UInt8 := [182, 0, 209, 172]
abbrev dktX4_tells_1 : List UInt8 := dkwX4_tells_1 ++ []
def dkwX4_tells_0 : List UInt8 := [42, 43, 182, 0, 205, 154, 0, 8, 42, 182, 0, 198, 172, 42, 182, 0, 202, 42, 44, 29, 21, 4, 21, 5]
abbrev dktX4_tells_0 : List UInt8 := dkwX4_tells_0 ++ dktX4_tells_1
theorem dksX4_tells_0 : cX4_tells.data.toList.drop 0 = dktX4_tells_0 := by decide +kernel
theorem dksX4_tells_1 : cX4_tells.data.toList.drop 24 = dktX4_tells_1 := dk_seg dksX4_tells_0 24 rfl rfl
theorem dX4_tells_0 : decode cX4_tells 0 = .ok (.aload_n 0, 1) := dk_42 (dk_at dksX4_tells_0 0 rfl rfl)
theorem dX4_tells_1 : decode cX4_tells 1 = .ok (.aload_n 1, 1) := dk_43 (dk_at dksX4_tells_0 1 rfl rfl)
theorem dX4_tells_2 : decode cX4_tells 2 = .ok (.invokevirtual 205, 3) := dk_182 0 205 (dk_at dksX4_tells_0 2 rfl rfl)
theorem dX4_tells_5 : decode cX4_tells 5 = .ok (.ifCond .ne 8, 3) := dk_154 0 8 (dk_at dksX4_tells_0 5 rfl rfl)
theorem dX4_tells_8 : decode cX4_tells 8 = .ok (.aload_n 0, 1) := dk_42 (dk_at dksX4_tells_0 8 rfl rfl)
theorem dX4_tells_9 : decode cX4_tells 9 = .ok (.invokevirtual 198, 3) := dk_182 0 198 (dk_at dksX4_tells_0 9 rfl rfl)
theorem dX4_tells_12 : decode cX4_tells 12 = .ok (.ireturn, 1) := dk_172 (dk_at dksX4_tells_0 12 rfl rfl)
theorem dX4_tells_13 : decode cX4_tells 13 = .ok (.aload_n 0, 1) := dk_42 (dk_at dksX4_tells_0 13 rfl rfl)
theorem dX4_tells_14 : decode cX4_tells 14 = .ok (.invokevirtual 202, 3) := dk_182 0 202 (dk_at dksX4_tells_0 14 rfl rfl)
theorem dX4_tells_17 : decode cX4_tells 17 = .ok (.aload_n 0, 1) := dk_42 (dk_at dksX4_tells_0 17 rfl rfl)
theorem dX4_tells_18 : decode cX4_tells 18 = .ok (.aload_n 2, 1) := dk_44 (dk_at dksX4_tells_0 18 rfl rfl)
theorem dX4_tells_19 : decode cX4_tells 19 = .ok (.iload_n 3, 1) := dk_29 (dk_at dksX4_tells_0 19 rfl rfl)
theorem dX4_tells_20 : decode cX4_tells 20 = .ok (.iload 4, 2) := dk_21 4 (dk_at dksX4_tells_0 20 rfl rfl)
theorem dX4_tells_22 : decode cX4_tells 22 = .ok (.iload 5, 2) := dk_21 5 (dk_at dksX4_tells_0 22 rfl rfl)
theorem dX4_tells_24 : decode cX4_tells 24 = .ok (.invokevirtual 209, 3) := dk_182 0 209 (dk_at dksX4_tells_1 0 rfl rfl)
theorem dX4_tells_27 : decode cX4_tells 27 = .ok (.ireturn, 1) := dk_172 (dk_at dksX4_tells_1 3 rfl rfl)
abbrev cX4_wrong : ByteArray := prog_19_method_34_code
def yX4_wrong : MethodName := ⟨RX4, "wrong", "()Z"⟩
def dkwX4_wrong_0 : List UInt8 := [42, 42, 180, 0, 165, 181, 0, 186, 3, 172]
abbrev dktX4_wrong_0 : List UInt8 := dkwX4_wrong_0 ++ []
theorem dksX4_wrong_0 : cX4_wrong.data.toList.drop 0 = dktX4_wrong_0 := by decide +kernel
theorem dX4_wrong_0 : decode cX4_wrong 0 = .ok (.aload_n 0, 1) := dk_42 (dk_at dksX4_wrong_0 0 rfl rfl)
theorem dX4_wrong_1 : decode cX4_wrong 1 = .ok (.aload_n 0, 1) := dk_42 (dk_at dksX4_wrong_0 1 rfl rfl)
theorem dX4_wrong_2 : decode cX4_wrong 2 = .ok (.getfield 165, 3) := dk_180 0 165 (dk_at dksX4_wrong_0 2 rfl rfl)
theorem dX4_wrong_5 : decode cX4_wrong 5 = .ok (.putfield 186, 3) := dk_181 0 186 (dk_at dksX4_wrong_0 5 rfl rfl)
theorem dX4_wrong_8 : decode cX4_wrong 8 = .ok (.iconst 0, 1) := dk_3 (dk_at dksX4_wrong_0 8 rfl rfl)
theorem dX4_wrong_9 : decode cX4_wrong 9 = .ok (.ireturn, 1) := dk_172 (dk_at dksX4_wrong_0 9 rfl rfl)
abbrev cX4_number : ByteArray := prog_19_method_36_code
def yX4_number : MethodName := ⟨RX4, "number", "([IIII)Z"⟩
def dkwX4_number_1 : List UInt8 := [182, 0, 198, 172, 43, 28, 42, 180, 0, 168, 136, 79, 42, 182, 0, 202, 4, 172]
abbrev dktX4_number_1 : List UInt8 := dkwX4_number_1 ++ []
def dkwX4_number_0 : List UInt8 := [42, 180, 0, 172, 5, 160, 0, 18, 42, 180, 0, 168, 29, 133, 21, 4, 133, 184, 0, 88, 154, 0, 8, 42]
abbrev dktX4_number_0 : List UInt8 := dkwX4_number_0 ++ dktX4_number_1
theorem dksX4_number_0 : cX4_number.data.toList.drop 0 = dktX4_number_0 := by decide +kernel
theorem dksX4_number_1 : cX4_number.data.toList.drop 24 = dktX4_number_1 := dk_seg dksX4_number_0 24 rfl rfl
theorem dX4_number_0 : decode cX4_number 0 = .ok (.aload_n 0, 1) := dk_42 (dk_at dksX4_number_0 0 rfl rfl)
theorem dX4_number_1 : decode cX4_number 1 = .ok (.getfield 172, 3) := dk_180 0 172 (dk_at dksX4_number_0 1 rfl rfl)
theorem dX4_number_4 : decode cX4_number 4 = .ok (.iconst 2, 1) := dk_5 (dk_at dksX4_number_0 4 rfl rfl)
theorem dX4_number_5 : decode cX4_number 5 = .ok (.if_icmp .ne 18, 3) := dk_160 0 18 (dk_at dksX4_number_0 5 rfl rfl)
theorem dX4_number_8 : decode cX4_number 8 = .ok (.aload_n 0, 1) := dk_42 (dk_at dksX4_number_0 8 rfl rfl)
theorem dX4_number_9 : decode cX4_number 9 = .ok (.getfield 168, 3) := dk_180 0 168 (dk_at dksX4_number_0 9 rfl rfl)
theorem dX4_number_12 : decode cX4_number 12 = .ok (.iload_n 3, 1) := dk_29 (dk_at dksX4_number_0 12 rfl rfl)
theorem dX4_number_13 : decode cX4_number 13 = .ok (.i2l, 1) := dk_133 (dk_at dksX4_number_0 13 rfl rfl)
theorem dX4_number_14 : decode cX4_number 14 = .ok (.iload 4, 2) := dk_21 4 (dk_at dksX4_number_0 14 rfl rfl)
theorem dX4_number_16 : decode cX4_number 16 = .ok (.i2l, 1) := dk_133 (dk_at dksX4_number_0 16 rfl rfl)
theorem dX4_number_17 : decode cX4_number 17 = .ok (.invokestatic 88, 3) := dk_184 0 88 (dk_at dksX4_number_0 17 rfl rfl)
theorem dX4_number_20 : decode cX4_number 20 = .ok (.ifCond .ne 8, 3) := dk_154 0 8 (dk_at dksX4_number_0 20 rfl rfl)
theorem dX4_number_23 : decode cX4_number 23 = .ok (.aload_n 0, 1) := dk_42 (dk_at dksX4_number_0 23 rfl rfl)
theorem dX4_number_24 : decode cX4_number 24 = .ok (.invokevirtual 198, 3) := dk_182 0 198 (dk_at dksX4_number_1 0 rfl rfl)
theorem dX4_number_27 : decode cX4_number 27 = .ok (.ireturn, 1) := dk_172 (dk_at dksX4_number_1 3 rfl rfl)
theorem dX4_number_28 : decode cX4_number 28 = .ok (.aload_n 1, 1) := dk_43 (dk_at dksX4_number_1 4 rfl rfl)
theorem dX4_number_29 : decode cX4_number 29 = .ok (.iload_n 2, 1) := dk_28 (dk_at dksX4_number_1 5 rfl rfl)
theorem dX4_number_30 : decode cX4_number 30 = .ok (.aload_n 0, 1) := dk_42 (dk_at dksX4_number_1 6 rfl rfl)
theorem dX4_number_31 : decode cX4_number 31 = .ok (.getfield 168, 3) := dk_180 0 168 (dk_at dksX4_number_1 7 rfl rfl)
theorem dX4_number_34 : decode cX4_number 34 = .ok (.l2i, 1) := dk_136 (dk_at dksX4_number_1 10 rfl rfl)
theorem dX4_number_35 : decode cX4_number 35 = .ok (.iastore, 1) := dk_79 (dk_at dksX4_number_1 11 rfl rfl)
theorem dX4_number_36 : decode cX4_number 36 = .ok (.aload_n 0, 1) := dk_42 (dk_at dksX4_number_1 12 rfl rfl)
theorem dX4_number_37 : decode cX4_number 37 = .ok (.invokevirtual 202, 3) := dk_182 0 202 (dk_at dksX4_number_1 13 rfl rfl)
theorem dX4_number_40 : decode cX4_number 40 = .ok (.iconst 1, 1) := dk_4 (dk_at dksX4_number_1 16 rfl rfl)
theorem dX4_number_41 : decode cX4_number 41 = .ok (.ireturn, 1) := dk_172 (dk_at dksX4_number_1 17 rfl rfl)
abbrev cX4_perhaps : ByteArray := prog_19_method_38_code
def yX4_perhaps : MethodName := ⟨RX4, "perhaps", "(Ljava/lang/String;[IIII)Z"⟩
def dkwX4_perhaps_1 : List UInt8 := [167, 0, 4, 3, 172]
abbrev dktX4_perhaps_1 : List UInt8 := dkwX4_perhaps_1 ++ []
def dkwX4_perhaps_0 : List UInt8 := [42, 43, 182, 0, 205, 153, 0, 17, 42, 43, 44, 29, 21, 4, 21, 5, 182, 0, 213, 153, 0, 7, 4]
abbrev dktX4_perhaps_0 : List UInt8 := dkwX4_perhaps_0 ++ dktX4_perhaps_1
theorem dksX4_perhaps_0 : cX4_perhaps.data.toList.drop 0 = dktX4_perhaps_0 := by decide +kernel
theorem dksX4_perhaps_1 : cX4_perhaps.data.toList.drop 23 = dktX4_perhaps_1 := dk_seg dksX4_perhaps_0 23 rfl rfl
theorem dX4_perhaps_0 : decode cX4_perhaps 0 = .ok (.aload_n 0, 1) := dk_42 (dk_at dksX4_perhaps_0 0 rfl rfl)
theorem dX4_perhaps_1 : decode cX4_perhaps 1 = .ok (.aload_n 1, 1) := dk_43 (dk_at dksX4_perhaps_0 1 rfl rfl)
theorem dX4_perhaps_2 : decode cX4_perhaps 2 = .ok (.invokevirtual 205, 3) := dk_182 0 205 (dk_at dksX4_perhaps_0 2 rfl rfl)
theorem dX4_perhaps_5 : decode cX4_perhaps 5 = .ok (.ifCond .eq 17, 3) := dk_153 0 17 (dk_at dksX4_perhaps_0 5 rfl rfl)
theorem dX4_perhaps_8 : decode cX4_perhaps 8 = .ok (.aload_n 0, 1) := dk_42 (dk_at dksX4_perhaps_0 8 rfl rfl)
theorem dX4_perhaps_9 : decode cX4_perhaps 9 = .ok (.aload_n 1, 1) := dk_43 (dk_at dksX4_perhaps_0 9 rfl rfl)
theorem dX4_perhaps_10 : decode cX4_perhaps 10 = .ok (.aload_n 2, 1) := dk_44 (dk_at dksX4_perhaps_0 10 rfl rfl)
theorem dX4_perhaps_11 : decode cX4_perhaps 11 = .ok (.iload_n 3, 1) := dk_29 (dk_at dksX4_perhaps_0 11 rfl rfl)
theorem dX4_perhaps_12 : decode cX4_perhaps 12 = .ok (.iload 4, 2) := dk_21 4 (dk_at dksX4_perhaps_0 12 rfl rfl)
theorem dX4_perhaps_14 : decode cX4_perhaps 14 = .ok (.iload 5, 2) := dk_21 5 (dk_at dksX4_perhaps_0 14 rfl rfl)
theorem dX4_perhaps_16 : decode cX4_perhaps 16 = .ok (.invokevirtual 213, 3) := dk_182 0 213 (dk_at dksX4_perhaps_0 16 rfl rfl)
theorem dX4_perhaps_19 : decode cX4_perhaps 19 = .ok (.ifCond .eq 7, 3) := dk_153 0 7 (dk_at dksX4_perhaps_0 19 rfl rfl)
theorem dX4_perhaps_22 : decode cX4_perhaps 22 = .ok (.iconst 1, 1) := dk_4 (dk_at dksX4_perhaps_0 22 rfl rfl)
theorem dX4_perhaps_23 : decode cX4_perhaps 23 = .ok (.goto 4, 3) := dk_167 0 4 (dk_at dksX4_perhaps_1 0 rfl rfl)
theorem dX4_perhaps_26 : decode cX4_perhaps 26 = .ok (.iconst 0, 1) := dk_3 (dk_at dksX4_perhaps_1 3 rfl rfl)
theorem dX4_perhaps_27 : decode cX4_perhaps 27 = .ok (.ireturn, 1) := dk_172 (dk_at dksX4_perhaps_1 4 rfl rfl)
abbrev cX4_state : ByteArray := prog_19_method_42_code
def yX4_state : MethodName := ⟨RX4, "state", "(I)I"⟩
def dkwX4_state_5 : List UInt8 := [182, 0, 110, 172]
abbrev dktX4_state_5 : List UInt8 := dkwX4_state_5 ++ []
def dkwX4_state_4 : List UInt8 := [42, 180, 0, 43, 4, 46, 96, 42, 180, 0, 43, 5, 46, 96, 172, 42, 182, 0, 129, 172, 42, 16, 254]
abbrev dktX4_state_4 : List UInt8 := dkwX4_state_4 ++ dktX4_state_5
def dkwX4_state_3 : List UInt8 := [3, 46, 100, 42, 180, 0, 43, 4, 46, 100, 42, 180, 0, 43, 5, 46, 100, 172, 42, 180, 0, 43, 3, 46]
abbrev dktX4_state_3 : List UInt8 := dkwX4_state_3 ++ dktX4_state_4
def dkwX4_state_2 : List UInt8 := [42, 180, 0, 40, 3, 46, 42, 180, 0, 40, 4, 46, 96, 42, 180, 0, 40, 5, 46, 96, 42, 180, 0, 43]
abbrev dktX4_state_2 : List UInt8 := dkwX4_state_2 ++ dktX4_state_3
def dkwX4_state_1 : List UInt8 := [170, 0, 0, 0, 0, 0, 95, 0, 0, 0, 0, 0, 0, 0, 2, 0, 0, 0, 27, 0, 0, 0, 69, 0, 0, 0, 90]
abbrev dktX4_state_1 : List UInt8 := dkwX4_state_1 ++ dktX4_state_2
def dkwX4_state_0 : List UInt8 := [27]
abbrev dktX4_state_0 : List UInt8 := dkwX4_state_0 ++ dktX4_state_1
theorem dksX4_state_0 : cX4_state.data.toList.drop 0 = dktX4_state_0 := by decide +kernel
theorem dksX4_state_1 : cX4_state.data.toList.drop 1 = dktX4_state_1 := dk_seg dksX4_state_0 1 rfl rfl
theorem dksX4_state_2 : cX4_state.data.toList.drop 28 = dktX4_state_2 := dk_seg dksX4_state_1 27 rfl rfl
theorem dksX4_state_3 : cX4_state.data.toList.drop 52 = dktX4_state_3 := dk_seg dksX4_state_2 24 rfl rfl
theorem dksX4_state_4 : cX4_state.data.toList.drop 76 = dktX4_state_4 := dk_seg dksX4_state_3 24 rfl rfl
theorem dksX4_state_5 : cX4_state.data.toList.drop 99 = dktX4_state_5 := dk_seg dksX4_state_4 23 rfl rfl
theorem dX4_state_0 : decode cX4_state 0 = .ok (.iload_n 1, 1) := dk_27 (dk_at dksX4_state_0 0 rfl rfl)
theorem dX4_state_1 : decode cX4_state 1 = .ok (.tableswitch 95 0 2 #[27, 69, 90], 27) := by decide +kernel
theorem dX4_state_28 : decode cX4_state 28 = .ok (.aload_n 0, 1) := dk_42 (dk_at dksX4_state_2 0 rfl rfl)
theorem dX4_state_29 : decode cX4_state 29 = .ok (.getfield 40, 3) := dk_180 0 40 (dk_at dksX4_state_2 1 rfl rfl)
theorem dX4_state_32 : decode cX4_state 32 = .ok (.iconst 0, 1) := dk_3 (dk_at dksX4_state_2 4 rfl rfl)
theorem dX4_state_33 : decode cX4_state 33 = .ok (.iaload, 1) := dk_46 (dk_at dksX4_state_2 5 rfl rfl)
theorem dX4_state_34 : decode cX4_state 34 = .ok (.aload_n 0, 1) := dk_42 (dk_at dksX4_state_2 6 rfl rfl)
theorem dX4_state_35 : decode cX4_state 35 = .ok (.getfield 40, 3) := dk_180 0 40 (dk_at dksX4_state_2 7 rfl rfl)
theorem dX4_state_38 : decode cX4_state 38 = .ok (.iconst 1, 1) := dk_4 (dk_at dksX4_state_2 10 rfl rfl)
theorem dX4_state_39 : decode cX4_state 39 = .ok (.iaload, 1) := dk_46 (dk_at dksX4_state_2 11 rfl rfl)
theorem dX4_state_40 : decode cX4_state 40 = .ok (.iadd, 1) := dk_96 (dk_at dksX4_state_2 12 rfl rfl)
theorem dX4_state_41 : decode cX4_state 41 = .ok (.aload_n 0, 1) := dk_42 (dk_at dksX4_state_2 13 rfl rfl)
theorem dX4_state_42 : decode cX4_state 42 = .ok (.getfield 40, 3) := dk_180 0 40 (dk_at dksX4_state_2 14 rfl rfl)
theorem dX4_state_45 : decode cX4_state 45 = .ok (.iconst 2, 1) := dk_5 (dk_at dksX4_state_2 17 rfl rfl)
theorem dX4_state_46 : decode cX4_state 46 = .ok (.iaload, 1) := dk_46 (dk_at dksX4_state_2 18 rfl rfl)
theorem dX4_state_47 : decode cX4_state 47 = .ok (.iadd, 1) := dk_96 (dk_at dksX4_state_2 19 rfl rfl)
theorem dX4_state_48 : decode cX4_state 48 = .ok (.aload_n 0, 1) := dk_42 (dk_at dksX4_state_2 20 rfl rfl)
theorem dX4_state_49 : decode cX4_state 49 = .ok (.getfield 43, 3) := dk_180 0 43 (dk_at dksX4_state_2 21 rfl rfl)
theorem dX4_state_52 : decode cX4_state 52 = .ok (.iconst 0, 1) := dk_3 (dk_at dksX4_state_3 0 rfl rfl)
theorem dX4_state_53 : decode cX4_state 53 = .ok (.iaload, 1) := dk_46 (dk_at dksX4_state_3 1 rfl rfl)
theorem dX4_state_54 : decode cX4_state 54 = .ok (.isub, 1) := dk_100 (dk_at dksX4_state_3 2 rfl rfl)
theorem dX4_state_55 : decode cX4_state 55 = .ok (.aload_n 0, 1) := dk_42 (dk_at dksX4_state_3 3 rfl rfl)
theorem dX4_state_56 : decode cX4_state 56 = .ok (.getfield 43, 3) := dk_180 0 43 (dk_at dksX4_state_3 4 rfl rfl)
theorem dX4_state_59 : decode cX4_state 59 = .ok (.iconst 1, 1) := dk_4 (dk_at dksX4_state_3 7 rfl rfl)
theorem dX4_state_60 : decode cX4_state 60 = .ok (.iaload, 1) := dk_46 (dk_at dksX4_state_3 8 rfl rfl)
theorem dX4_state_61 : decode cX4_state 61 = .ok (.isub, 1) := dk_100 (dk_at dksX4_state_3 9 rfl rfl)
theorem dX4_state_62 : decode cX4_state 62 = .ok (.aload_n 0, 1) := dk_42 (dk_at dksX4_state_3 10 rfl rfl)
theorem dX4_state_63 : decode cX4_state 63 = .ok (.getfield 43, 3) := dk_180 0 43 (dk_at dksX4_state_3 11 rfl rfl)
theorem dX4_state_66 : decode cX4_state 66 = .ok (.iconst 2, 1) := dk_5 (dk_at dksX4_state_3 14 rfl rfl)
theorem dX4_state_67 : decode cX4_state 67 = .ok (.iaload, 1) := dk_46 (dk_at dksX4_state_3 15 rfl rfl)
theorem dX4_state_68 : decode cX4_state 68 = .ok (.isub, 1) := dk_100 (dk_at dksX4_state_3 16 rfl rfl)
theorem dX4_state_69 : decode cX4_state 69 = .ok (.ireturn, 1) := dk_172 (dk_at dksX4_state_3 17 rfl rfl)
theorem dX4_state_70 : decode cX4_state 70 = .ok (.aload_n 0, 1) := dk_42 (dk_at dksX4_state_3 18 rfl rfl)
theorem dX4_state_71 : decode cX4_state 71 = .ok (.getfield 43, 3) := dk_180 0 43 (dk_at dksX4_state_3 19 rfl rfl)
theorem dX4_state_74 : decode cX4_state 74 = .ok (.iconst 0, 1) := dk_3 (dk_at dksX4_state_3 22 rfl rfl)
theorem dX4_state_75 : decode cX4_state 75 = .ok (.iaload, 1) := dk_46 (dk_at dksX4_state_3 23 rfl rfl)
theorem dX4_state_76 : decode cX4_state 76 = .ok (.aload_n 0, 1) := dk_42 (dk_at dksX4_state_4 0 rfl rfl)
theorem dX4_state_77 : decode cX4_state 77 = .ok (.getfield 43, 3) := dk_180 0 43 (dk_at dksX4_state_4 1 rfl rfl)
theorem dX4_state_80 : decode cX4_state 80 = .ok (.iconst 1, 1) := dk_4 (dk_at dksX4_state_4 4 rfl rfl)
theorem dX4_state_81 : decode cX4_state 81 = .ok (.iaload, 1) := dk_46 (dk_at dksX4_state_4 5 rfl rfl)
theorem dX4_state_82 : decode cX4_state 82 = .ok (.iadd, 1) := dk_96 (dk_at dksX4_state_4 6 rfl rfl)
theorem dX4_state_83 : decode cX4_state 83 = .ok (.aload_n 0, 1) := dk_42 (dk_at dksX4_state_4 7 rfl rfl)
theorem dX4_state_84 : decode cX4_state 84 = .ok (.getfield 43, 3) := dk_180 0 43 (dk_at dksX4_state_4 8 rfl rfl)
theorem dX4_state_87 : decode cX4_state 87 = .ok (.iconst 2, 1) := dk_5 (dk_at dksX4_state_4 11 rfl rfl)
theorem dX4_state_88 : decode cX4_state 88 = .ok (.iaload, 1) := dk_46 (dk_at dksX4_state_4 12 rfl rfl)
theorem dX4_state_89 : decode cX4_state 89 = .ok (.iadd, 1) := dk_96 (dk_at dksX4_state_4 13 rfl rfl)
theorem dX4_state_90 : decode cX4_state 90 = .ok (.ireturn, 1) := dk_172 (dk_at dksX4_state_4 14 rfl rfl)
theorem dX4_state_91 : decode cX4_state 91 = .ok (.aload_n 0, 1) := dk_42 (dk_at dksX4_state_4 15 rfl rfl)
theorem dX4_state_92 : decode cX4_state 92 = .ok (.invokevirtual 129, 3) := dk_182 0 129 (dk_at dksX4_state_4 16 rfl rfl)
theorem dX4_state_95 : decode cX4_state 95 = .ok (.ireturn, 1) := dk_172 (dk_at dksX4_state_4 19 rfl rfl)
theorem dX4_state_96 : decode cX4_state 96 = .ok (.aload_n 0, 1) := dk_42 (dk_at dksX4_state_4 20 rfl rfl)
theorem dX4_state_97 : decode cX4_state 97 = .ok (.bipush (-2), 2) := dk_16 254 (dk_at dksX4_state_4 21 rfl rfl)
theorem dX4_state_99 : decode cX4_state 99 = .ok (.invokevirtual 110, 3) := dk_182 0 110 (dk_at dksX4_state_5 0 rfl rfl)
theorem dX4_state_102 : decode cX4_state 102 = .ok (.ireturn, 1) := dk_172 (dk_at dksX4_state_5 3 rfl rfl)
abbrev cX4_lost : ByteArray := prog_19_method_45_code
def yX4_lost : MethodName := ⟨RX4, "lost", "(I)J"⟩
def dkwX4_lost_1 : List UInt8 := [182, 0, 110, 133, 97, 173]
abbrev dktX4_lost_1 : List UInt8 := dkwX4_lost_1 ++ []
def dkwX4_lost_0 : List UInt8 := [42, 27, 133, 182, 0, 153, 153, 0, 11, 42, 27, 182, 0, 250, 167, 0, 14, 20, 0, 254, 42, 16, 254]
abbrev dktX4_lost_0 : List UInt8 := dkwX4_lost_0 ++ dktX4_lost_1
theorem dksX4_lost_0 : cX4_lost.data.toList.drop 0 = dktX4_lost_0 := by decide +kernel
theorem dksX4_lost_1 : cX4_lost.data.toList.drop 23 = dktX4_lost_1 := dk_seg dksX4_lost_0 23 rfl rfl
theorem dX4_lost_0 : decode cX4_lost 0 = .ok (.aload_n 0, 1) := dk_42 (dk_at dksX4_lost_0 0 rfl rfl)
theorem dX4_lost_1 : decode cX4_lost 1 = .ok (.iload_n 1, 1) := dk_27 (dk_at dksX4_lost_0 1 rfl rfl)
theorem dX4_lost_2 : decode cX4_lost 2 = .ok (.i2l, 1) := dk_133 (dk_at dksX4_lost_0 2 rfl rfl)
theorem dX4_lost_3 : decode cX4_lost 3 = .ok (.invokevirtual 153, 3) := dk_182 0 153 (dk_at dksX4_lost_0 3 rfl rfl)
theorem dX4_lost_6 : decode cX4_lost 6 = .ok (.ifCond .eq 11, 3) := dk_153 0 11 (dk_at dksX4_lost_0 6 rfl rfl)
theorem dX4_lost_9 : decode cX4_lost 9 = .ok (.aload_n 0, 1) := dk_42 (dk_at dksX4_lost_0 9 rfl rfl)
theorem dX4_lost_10 : decode cX4_lost 10 = .ok (.iload_n 1, 1) := dk_27 (dk_at dksX4_lost_0 10 rfl rfl)
theorem dX4_lost_11 : decode cX4_lost 11 = .ok (.invokevirtual 250, 3) := dk_182 0 250 (dk_at dksX4_lost_0 11 rfl rfl)
theorem dX4_lost_14 : decode cX4_lost 14 = .ok (.goto 14, 3) := dk_167 0 14 (dk_at dksX4_lost_0 14 rfl rfl)
theorem dX4_lost_17 : decode cX4_lost 17 = .ok (.ldc2_w 254, 3) := dk_20 0 254 (dk_at dksX4_lost_0 17 rfl rfl)
theorem dX4_lost_20 : decode cX4_lost 20 = .ok (.aload_n 0, 1) := dk_42 (dk_at dksX4_lost_0 20 rfl rfl)
theorem dX4_lost_21 : decode cX4_lost 21 = .ok (.bipush (-2), 2) := dk_16 254 (dk_at dksX4_lost_0 21 rfl rfl)
theorem dX4_lost_23 : decode cX4_lost 23 = .ok (.invokevirtual 110, 3) := dk_182 0 110 (dk_at dksX4_lost_1 0 rfl rfl)
theorem dX4_lost_26 : decode cX4_lost 26 = .ok (.i2l, 1) := dk_133 (dk_at dksX4_lost_1 3 rfl rfl)
theorem dX4_lost_27 : decode cX4_lost 27 = .ok (.ladd, 1) := dk_97 (dk_at dksX4_lost_1 4 rfl rfl)
theorem dX4_lost_28 : decode cX4_lost 28 = .ok (.lreturn, 1) := dk_173 (dk_at dksX4_lost_1 5 rfl rfl)
abbrev cX4_gets : ByteArray := prog_19_method_51_code
def yX4_gets : MethodName := ⟨RX4, "gets", "(III)I"⟩
def dkwX4_gets_3 : List UInt8 := [182, 0, 133, 172]
abbrev dktX4_gets_3 : List UInt8 := dkwX4_gets_3 ++ []
def dkwX4_gets_2 : List UInt8 := [153, 0, 8, 21, 4, 167, 0, 21, 42, 42, 180, 0, 28, 27, 46, 42, 180, 0, 31, 27, 46, 28, 29]
abbrev dktX4_gets_2 : List UInt8 := dkwX4_gets_2 ++ dktX4_gets_3
def dkwX4_gets_1 : List UInt8 := [182, 1, 13, 154, 0, 10, 42, 16, 254, 182, 0, 110, 172, 42, 27, 182, 1, 27, 54, 4, 21, 4]
abbrev dktX4_gets_1 : List UInt8 := dkwX4_gets_1 ++ dktX4_gets_2
def dkwX4_gets_0 : List UInt8 := [27, 133, 9, 20, 0, 104, 184, 0, 88, 153, 0, 20, 42, 28, 133, 182, 0, 153, 153, 0, 11, 42, 29]
abbrev dktX4_gets_0 : List UInt8 := dkwX4_gets_0 ++ dktX4_gets_1
theorem dksX4_gets_0 : cX4_gets.data.toList.drop 0 = dktX4_gets_0 := by decide +kernel
theorem dksX4_gets_1 : cX4_gets.data.toList.drop 23 = dktX4_gets_1 := dk_seg dksX4_gets_0 23 rfl rfl
theorem dksX4_gets_2 : cX4_gets.data.toList.drop 45 = dktX4_gets_2 := dk_seg dksX4_gets_1 22 rfl rfl
theorem dksX4_gets_3 : cX4_gets.data.toList.drop 68 = dktX4_gets_3 := dk_seg dksX4_gets_2 23 rfl rfl
theorem dX4_gets_0 : decode cX4_gets 0 = .ok (.iload_n 1, 1) := dk_27 (dk_at dksX4_gets_0 0 rfl rfl)
theorem dX4_gets_1 : decode cX4_gets 1 = .ok (.i2l, 1) := dk_133 (dk_at dksX4_gets_0 1 rfl rfl)
theorem dX4_gets_2 : decode cX4_gets 2 = .ok (.lconst 0, 1) := dk_9 (dk_at dksX4_gets_0 2 rfl rfl)
theorem dX4_gets_3 : decode cX4_gets 3 = .ok (.ldc2_w 104, 3) := dk_20 0 104 (dk_at dksX4_gets_0 3 rfl rfl)
theorem dX4_gets_6 : decode cX4_gets 6 = .ok (.invokestatic 88, 3) := dk_184 0 88 (dk_at dksX4_gets_0 6 rfl rfl)
theorem dX4_gets_9 : decode cX4_gets 9 = .ok (.ifCond .eq 20, 3) := dk_153 0 20 (dk_at dksX4_gets_0 9 rfl rfl)
theorem dX4_gets_12 : decode cX4_gets 12 = .ok (.aload_n 0, 1) := dk_42 (dk_at dksX4_gets_0 12 rfl rfl)
theorem dX4_gets_13 : decode cX4_gets 13 = .ok (.iload_n 2, 1) := dk_28 (dk_at dksX4_gets_0 13 rfl rfl)
theorem dX4_gets_14 : decode cX4_gets 14 = .ok (.i2l, 1) := dk_133 (dk_at dksX4_gets_0 14 rfl rfl)
theorem dX4_gets_15 : decode cX4_gets 15 = .ok (.invokevirtual 153, 3) := dk_182 0 153 (dk_at dksX4_gets_0 15 rfl rfl)
theorem dX4_gets_18 : decode cX4_gets 18 = .ok (.ifCond .eq 11, 3) := dk_153 0 11 (dk_at dksX4_gets_0 18 rfl rfl)
theorem dX4_gets_21 : decode cX4_gets 21 = .ok (.aload_n 0, 1) := dk_42 (dk_at dksX4_gets_0 21 rfl rfl)
theorem dX4_gets_22 : decode cX4_gets 22 = .ok (.iload_n 3, 1) := dk_29 (dk_at dksX4_gets_0 22 rfl rfl)
theorem dX4_gets_23 : decode cX4_gets 23 = .ok (.invokevirtual 269, 3) := dk_182 1 13 (dk_at dksX4_gets_1 0 rfl rfl)
theorem dX4_gets_26 : decode cX4_gets 26 = .ok (.ifCond .ne 10, 3) := dk_154 0 10 (dk_at dksX4_gets_1 3 rfl rfl)
theorem dX4_gets_29 : decode cX4_gets 29 = .ok (.aload_n 0, 1) := dk_42 (dk_at dksX4_gets_1 6 rfl rfl)
theorem dX4_gets_30 : decode cX4_gets 30 = .ok (.bipush (-2), 2) := dk_16 254 (dk_at dksX4_gets_1 7 rfl rfl)
theorem dX4_gets_32 : decode cX4_gets 32 = .ok (.invokevirtual 110, 3) := dk_182 0 110 (dk_at dksX4_gets_1 9 rfl rfl)
theorem dX4_gets_35 : decode cX4_gets 35 = .ok (.ireturn, 1) := dk_172 (dk_at dksX4_gets_1 12 rfl rfl)
theorem dX4_gets_36 : decode cX4_gets 36 = .ok (.aload_n 0, 1) := dk_42 (dk_at dksX4_gets_1 13 rfl rfl)
theorem dX4_gets_37 : decode cX4_gets 37 = .ok (.iload_n 1, 1) := dk_27 (dk_at dksX4_gets_1 14 rfl rfl)
theorem dX4_gets_38 : decode cX4_gets 38 = .ok (.invokevirtual 283, 3) := dk_182 1 27 (dk_at dksX4_gets_1 15 rfl rfl)
theorem dX4_gets_41 : decode cX4_gets 41 = .ok (.istore 4, 2) := dk_54 4 (dk_at dksX4_gets_1 18 rfl rfl)
theorem dX4_gets_43 : decode cX4_gets 43 = .ok (.iload 4, 2) := dk_21 4 (dk_at dksX4_gets_1 20 rfl rfl)
theorem dX4_gets_45 : decode cX4_gets 45 = .ok (.ifCond .eq 8, 3) := dk_153 0 8 (dk_at dksX4_gets_2 0 rfl rfl)
theorem dX4_gets_48 : decode cX4_gets 48 = .ok (.iload 4, 2) := dk_21 4 (dk_at dksX4_gets_2 3 rfl rfl)
theorem dX4_gets_50 : decode cX4_gets 50 = .ok (.goto 21, 3) := dk_167 0 21 (dk_at dksX4_gets_2 5 rfl rfl)
theorem dX4_gets_53 : decode cX4_gets 53 = .ok (.aload_n 0, 1) := dk_42 (dk_at dksX4_gets_2 8 rfl rfl)
theorem dX4_gets_54 : decode cX4_gets 54 = .ok (.aload_n 0, 1) := dk_42 (dk_at dksX4_gets_2 9 rfl rfl)
theorem dX4_gets_55 : decode cX4_gets 55 = .ok (.getfield 28, 3) := dk_180 0 28 (dk_at dksX4_gets_2 10 rfl rfl)
theorem dX4_gets_58 : decode cX4_gets 58 = .ok (.iload_n 1, 1) := dk_27 (dk_at dksX4_gets_2 13 rfl rfl)
theorem dX4_gets_59 : decode cX4_gets 59 = .ok (.iaload, 1) := dk_46 (dk_at dksX4_gets_2 14 rfl rfl)
theorem dX4_gets_60 : decode cX4_gets 60 = .ok (.aload_n 0, 1) := dk_42 (dk_at dksX4_gets_2 15 rfl rfl)
theorem dX4_gets_61 : decode cX4_gets 61 = .ok (.getfield 31, 3) := dk_180 0 31 (dk_at dksX4_gets_2 16 rfl rfl)
theorem dX4_gets_64 : decode cX4_gets 64 = .ok (.iload_n 1, 1) := dk_27 (dk_at dksX4_gets_2 19 rfl rfl)
theorem dX4_gets_65 : decode cX4_gets 65 = .ok (.iaload, 1) := dk_46 (dk_at dksX4_gets_2 20 rfl rfl)
theorem dX4_gets_66 : decode cX4_gets 66 = .ok (.iload_n 2, 1) := dk_28 (dk_at dksX4_gets_2 21 rfl rfl)
theorem dX4_gets_67 : decode cX4_gets 67 = .ok (.iload_n 3, 1) := dk_29 (dk_at dksX4_gets_2 22 rfl rfl)
theorem dX4_gets_68 : decode cX4_gets 68 = .ok (.invokevirtual 133, 3) := dk_182 0 133 (dk_at dksX4_gets_3 0 rfl rfl)
theorem dX4_gets_71 : decode cX4_gets 71 = .ok (.ireturn, 1) := dk_172 (dk_at dksX4_gets_3 3 rfl rfl)
abbrev cX4_noRule : ByteArray := prog_19_method_21_code
def yX4_noRule : MethodName := ⟨RX4, "noRule", "(I)I"⟩
def dkwX4_noRule_2 : List UInt8 := [182, 0, 110, 167, 0, 4, 3, 172]
abbrev dktX4_noRule_2 : List UInt8 := dkwX4_noRule_2 ++ []
def dkwX4_noRule_1 : List UInt8 := [46, 4, 160, 0, 10, 42, 16, 253, 182, 0, 110, 172, 42, 180, 0, 7, 27, 46, 154, 0, 12, 42, 16, 252]
abbrev dktX4_noRule_1 : List UInt8 := dkwX4_noRule_1 ++ dktX4_noRule_2
def dkwX4_noRule_0 : List UInt8 := [27, 133, 9, 20, 0, 104, 184, 0, 88, 154, 0, 10, 42, 16, 254, 182, 0, 110, 172, 42, 180, 0, 7, 27]
abbrev dktX4_noRule_0 : List UInt8 := dkwX4_noRule_0 ++ dktX4_noRule_1
theorem dksX4_noRule_0 : cX4_noRule.data.toList.drop 0 = dktX4_noRule_0 := by decide +kernel
theorem dksX4_noRule_1 : cX4_noRule.data.toList.drop 24 = dktX4_noRule_1 := dk_seg dksX4_noRule_0 24 rfl rfl
theorem dksX4_noRule_2 : cX4_noRule.data.toList.drop 48 = dktX4_noRule_2 := dk_seg dksX4_noRule_1 24 rfl rfl
theorem dX4_noRule_0 : decode cX4_noRule 0 = .ok (.iload_n 1, 1) := dk_27 (dk_at dksX4_noRule_0 0 rfl rfl)
theorem dX4_noRule_1 : decode cX4_noRule 1 = .ok (.i2l, 1) := dk_133 (dk_at dksX4_noRule_0 1 rfl rfl)
theorem dX4_noRule_2 : decode cX4_noRule 2 = .ok (.lconst 0, 1) := dk_9 (dk_at dksX4_noRule_0 2 rfl rfl)
theorem dX4_noRule_3 : decode cX4_noRule 3 = .ok (.ldc2_w 104, 3) := dk_20 0 104 (dk_at dksX4_noRule_0 3 rfl rfl)
theorem dX4_noRule_6 : decode cX4_noRule 6 = .ok (.invokestatic 88, 3) := dk_184 0 88 (dk_at dksX4_noRule_0 6 rfl rfl)
theorem dX4_noRule_9 : decode cX4_noRule 9 = .ok (.ifCond .ne 10, 3) := dk_154 0 10 (dk_at dksX4_noRule_0 9 rfl rfl)
theorem dX4_noRule_12 : decode cX4_noRule 12 = .ok (.aload_n 0, 1) := dk_42 (dk_at dksX4_noRule_0 12 rfl rfl)
theorem dX4_noRule_13 : decode cX4_noRule 13 = .ok (.bipush (-2), 2) := dk_16 254 (dk_at dksX4_noRule_0 13 rfl rfl)
theorem dX4_noRule_15 : decode cX4_noRule 15 = .ok (.invokevirtual 110, 3) := dk_182 0 110 (dk_at dksX4_noRule_0 15 rfl rfl)
theorem dX4_noRule_18 : decode cX4_noRule 18 = .ok (.ireturn, 1) := dk_172 (dk_at dksX4_noRule_0 18 rfl rfl)
theorem dX4_noRule_19 : decode cX4_noRule 19 = .ok (.aload_n 0, 1) := dk_42 (dk_at dksX4_noRule_0 19 rfl rfl)
theorem dX4_noRule_20 : decode cX4_noRule 20 = .ok (.getfield 7, 3) := dk_180 0 7 (dk_at dksX4_noRule_0 20 rfl rfl)
theorem dX4_noRule_23 : decode cX4_noRule 23 = .ok (.iload_n 1, 1) := dk_27 (dk_at dksX4_noRule_0 23 rfl rfl)
theorem dX4_noRule_24 : decode cX4_noRule 24 = .ok (.iaload, 1) := dk_46 (dk_at dksX4_noRule_1 0 rfl rfl)
theorem dX4_noRule_25 : decode cX4_noRule 25 = .ok (.iconst 1, 1) := dk_4 (dk_at dksX4_noRule_1 1 rfl rfl)
theorem dX4_noRule_26 : decode cX4_noRule 26 = .ok (.if_icmp .ne 10, 3) := dk_160 0 10 (dk_at dksX4_noRule_1 2 rfl rfl)
theorem dX4_noRule_29 : decode cX4_noRule 29 = .ok (.aload_n 0, 1) := dk_42 (dk_at dksX4_noRule_1 5 rfl rfl)
theorem dX4_noRule_30 : decode cX4_noRule 30 = .ok (.bipush (-3), 2) := dk_16 253 (dk_at dksX4_noRule_1 6 rfl rfl)
theorem dX4_noRule_32 : decode cX4_noRule 32 = .ok (.invokevirtual 110, 3) := dk_182 0 110 (dk_at dksX4_noRule_1 8 rfl rfl)
theorem dX4_noRule_35 : decode cX4_noRule 35 = .ok (.ireturn, 1) := dk_172 (dk_at dksX4_noRule_1 11 rfl rfl)
theorem dX4_noRule_36 : decode cX4_noRule 36 = .ok (.aload_n 0, 1) := dk_42 (dk_at dksX4_noRule_1 12 rfl rfl)
theorem dX4_noRule_37 : decode cX4_noRule 37 = .ok (.getfield 7, 3) := dk_180 0 7 (dk_at dksX4_noRule_1 13 rfl rfl)
theorem dX4_noRule_40 : decode cX4_noRule 40 = .ok (.iload_n 1, 1) := dk_27 (dk_at dksX4_noRule_1 16 rfl rfl)
theorem dX4_noRule_41 : decode cX4_noRule 41 = .ok (.iaload, 1) := dk_46 (dk_at dksX4_noRule_1 17 rfl rfl)
theorem dX4_noRule_42 : decode cX4_noRule 42 = .ok (.ifCond .ne 12, 3) := dk_154 0 12 (dk_at dksX4_noRule_1 18 rfl rfl)
theorem dX4_noRule_45 : decode cX4_noRule 45 = .ok (.aload_n 0, 1) := dk_42 (dk_at dksX4_noRule_1 21 rfl rfl)
theorem dX4_noRule_46 : decode cX4_noRule 46 = .ok (.bipush (-4), 2) := dk_16 252 (dk_at dksX4_noRule_1 22 rfl rfl)
theorem dX4_noRule_48 : decode cX4_noRule 48 = .ok (.invokevirtual 110, 3) := dk_182 0 110 (dk_at dksX4_noRule_2 0 rfl rfl)
theorem dX4_noRule_51 : decode cX4_noRule 51 = .ok (.goto 4, 3) := dk_167 0 4 (dk_at dksX4_noRule_2 3 rfl rfl)
theorem dX4_noRule_54 : decode cX4_noRule 54 = .ok (.iconst 0, 1) := dk_3 (dk_at dksX4_noRule_2 6 rfl rfl)
theorem dX4_noRule_55 : decode cX4_noRule 55 = .ok (.ireturn, 1) := dk_172 (dk_at dksX4_noRule_2 7 rfl rfl)
abbrev cX4_value : ByteArray := prog_19_method_58_code
def yX4_value : MethodName := ⟨RX4, "value", "(II)J"⟩
def dkwX4_value_1 : List UInt8 := [180, 0, 28, 27, 46, 42, 180, 0, 31, 27, 46, 28, 182, 1, 38, 173]
abbrev dktX4_value_1 : List UInt8 := dkwX4_value_1 ++ []
def dkwX4_value_0 : List UInt8 := [42, 27, 28, 182, 1, 45, 66, 33, 9, 148, 153, 0, 11, 20, 0, 254, 33, 97, 167, 0, 20, 42, 42]
abbrev dktX4_value_0 : List UInt8 := dkwX4_value_0 ++ dktX4_value_1
theorem dksX4_value_0 : cX4_value.data.toList.drop 0 = dktX4_value_0 := by decide +kernel
theorem dksX4_value_1 : cX4_value.data.toList.drop 23 = dktX4_value_1 := dk_seg dksX4_value_0 23 rfl rfl
theorem dX4_value_0 : decode cX4_value 0 = .ok (.aload_n 0, 1) := dk_42 (dk_at dksX4_value_0 0 rfl rfl)
theorem dX4_value_1 : decode cX4_value 1 = .ok (.iload_n 1, 1) := dk_27 (dk_at dksX4_value_0 1 rfl rfl)
theorem dX4_value_2 : decode cX4_value 2 = .ok (.iload_n 2, 1) := dk_28 (dk_at dksX4_value_0 2 rfl rfl)
theorem dX4_value_3 : decode cX4_value 3 = .ok (.invokevirtual 301, 3) := dk_182 1 45 (dk_at dksX4_value_0 3 rfl rfl)
theorem dX4_value_6 : decode cX4_value 6 = .ok (.lstore_n 3, 1) := dk_66 (dk_at dksX4_value_0 6 rfl rfl)
theorem dX4_value_7 : decode cX4_value 7 = .ok (.lload_n 3, 1) := dk_33 (dk_at dksX4_value_0 7 rfl rfl)
theorem dX4_value_8 : decode cX4_value 8 = .ok (.lconst 0, 1) := dk_9 (dk_at dksX4_value_0 8 rfl rfl)
theorem dX4_value_9 : decode cX4_value 9 = .ok (.lcmp, 1) := dk_148 (dk_at dksX4_value_0 9 rfl rfl)
theorem dX4_value_10 : decode cX4_value 10 = .ok (.ifCond .eq 11, 3) := dk_153 0 11 (dk_at dksX4_value_0 10 rfl rfl)
theorem dX4_value_13 : decode cX4_value 13 = .ok (.ldc2_w 254, 3) := dk_20 0 254 (dk_at dksX4_value_0 13 rfl rfl)
theorem dX4_value_16 : decode cX4_value 16 = .ok (.lload_n 3, 1) := dk_33 (dk_at dksX4_value_0 16 rfl rfl)
theorem dX4_value_17 : decode cX4_value 17 = .ok (.ladd, 1) := dk_97 (dk_at dksX4_value_0 17 rfl rfl)
theorem dX4_value_18 : decode cX4_value 18 = .ok (.goto 20, 3) := dk_167 0 20 (dk_at dksX4_value_0 18 rfl rfl)
theorem dX4_value_21 : decode cX4_value 21 = .ok (.aload_n 0, 1) := dk_42 (dk_at dksX4_value_0 21 rfl rfl)
theorem dX4_value_22 : decode cX4_value 22 = .ok (.aload_n 0, 1) := dk_42 (dk_at dksX4_value_0 22 rfl rfl)
theorem dX4_value_23 : decode cX4_value 23 = .ok (.getfield 28, 3) := dk_180 0 28 (dk_at dksX4_value_1 0 rfl rfl)
theorem dX4_value_26 : decode cX4_value 26 = .ok (.iload_n 1, 1) := dk_27 (dk_at dksX4_value_1 3 rfl rfl)
theorem dX4_value_27 : decode cX4_value 27 = .ok (.iaload, 1) := dk_46 (dk_at dksX4_value_1 4 rfl rfl)
theorem dX4_value_28 : decode cX4_value 28 = .ok (.aload_n 0, 1) := dk_42 (dk_at dksX4_value_1 5 rfl rfl)
theorem dX4_value_29 : decode cX4_value 29 = .ok (.getfield 31, 3) := dk_180 0 31 (dk_at dksX4_value_1 6 rfl rfl)
theorem dX4_value_32 : decode cX4_value 32 = .ok (.iload_n 1, 1) := dk_27 (dk_at dksX4_value_1 9 rfl rfl)
theorem dX4_value_33 : decode cX4_value 33 = .ok (.iaload, 1) := dk_46 (dk_at dksX4_value_1 10 rfl rfl)
theorem dX4_value_34 : decode cX4_value 34 = .ok (.iload_n 2, 1) := dk_28 (dk_at dksX4_value_1 11 rfl rfl)
theorem dX4_value_35 : decode cX4_value 35 = .ok (.invokevirtual 294, 3) := dk_182 1 38 (dk_at dksX4_value_1 12 rfl rfl)
theorem dX4_value_38 : decode cX4_value 38 = .ok (.lreturn, 1) := dk_173 (dk_at dksX4_value_1 15 rfl rfl)
abbrev cX4_noValue : ByteArray := prog_19_method_57_code
def yX4_noValue : MethodName := ⟨RX4, "noValue", "(II)J"⟩
def dkwX4_noValue_1 : List UInt8 := [182, 0, 110, 133, 173, 42, 27, 182, 1, 27, 133, 173]
abbrev dktX4_noValue_1 : List UInt8 := dkwX4_noValue_1 ++ []
def dkwX4_noValue_0 : List UInt8 := [27, 133, 9, 20, 0, 104, 184, 0, 88, 153, 0, 10, 28, 184, 1, 42, 154, 0, 11, 42, 16, 254]
abbrev dktX4_noValue_0 : List UInt8 := dkwX4_noValue_0 ++ dktX4_noValue_1
theorem dksX4_noValue_0 : cX4_noValue.data.toList.drop 0 = dktX4_noValue_0 := by decide +kernel
theorem dksX4_noValue_1 : cX4_noValue.data.toList.drop 22 = dktX4_noValue_1 := dk_seg dksX4_noValue_0 22 rfl rfl
theorem dX4_noValue_0 : decode cX4_noValue 0 = .ok (.iload_n 1, 1) := dk_27 (dk_at dksX4_noValue_0 0 rfl rfl)
theorem dX4_noValue_1 : decode cX4_noValue 1 = .ok (.i2l, 1) := dk_133 (dk_at dksX4_noValue_0 1 rfl rfl)
theorem dX4_noValue_2 : decode cX4_noValue 2 = .ok (.lconst 0, 1) := dk_9 (dk_at dksX4_noValue_0 2 rfl rfl)
theorem dX4_noValue_3 : decode cX4_noValue 3 = .ok (.ldc2_w 104, 3) := dk_20 0 104 (dk_at dksX4_noValue_0 3 rfl rfl)
theorem dX4_noValue_6 : decode cX4_noValue 6 = .ok (.invokestatic 88, 3) := dk_184 0 88 (dk_at dksX4_noValue_0 6 rfl rfl)
theorem dX4_noValue_9 : decode cX4_noValue 9 = .ok (.ifCond .eq 10, 3) := dk_153 0 10 (dk_at dksX4_noValue_0 9 rfl rfl)
theorem dX4_noValue_12 : decode cX4_noValue 12 = .ok (.iload_n 2, 1) := dk_28 (dk_at dksX4_noValue_0 12 rfl rfl)
theorem dX4_noValue_13 : decode cX4_noValue 13 = .ok (.invokestatic 298, 3) := dk_184 1 42 (dk_at dksX4_noValue_0 13 rfl rfl)
theorem dX4_noValue_16 : decode cX4_noValue 16 = .ok (.ifCond .ne 11, 3) := dk_154 0 11 (dk_at dksX4_noValue_0 16 rfl rfl)
theorem dX4_noValue_19 : decode cX4_noValue 19 = .ok (.aload_n 0, 1) := dk_42 (dk_at dksX4_noValue_0 19 rfl rfl)
theorem dX4_noValue_20 : decode cX4_noValue 20 = .ok (.bipush (-2), 2) := dk_16 254 (dk_at dksX4_noValue_0 20 rfl rfl)
theorem dX4_noValue_22 : decode cX4_noValue 22 = .ok (.invokevirtual 110, 3) := dk_182 0 110 (dk_at dksX4_noValue_1 0 rfl rfl)
theorem dX4_noValue_25 : decode cX4_noValue 25 = .ok (.i2l, 1) := dk_133 (dk_at dksX4_noValue_1 3 rfl rfl)
theorem dX4_noValue_26 : decode cX4_noValue 26 = .ok (.lreturn, 1) := dk_173 (dk_at dksX4_noValue_1 4 rfl rfl)
theorem dX4_noValue_27 : decode cX4_noValue 27 = .ok (.aload_n 0, 1) := dk_42 (dk_at dksX4_noValue_1 5 rfl rfl)
theorem dX4_noValue_28 : decode cX4_noValue 28 = .ok (.iload_n 1, 1) := dk_27 (dk_at dksX4_noValue_1 6 rfl rfl)
theorem dX4_noValue_29 : decode cX4_noValue 29 = .ok (.invokevirtual 283, 3) := dk_182 1 27 (dk_at dksX4_noValue_1 7 rfl rfl)
theorem dX4_noValue_32 : decode cX4_noValue 32 = .ok (.i2l, 1) := dk_133 (dk_at dksX4_noValue_1 10 rfl rfl)
theorem dX4_noValue_33 : decode cX4_noValue 33 = .ok (.lreturn, 1) := dk_173 (dk_at dksX4_noValue_1 11 rfl rfl)
abbrev cX4_areHours : ByteArray := prog_19_method_5_code
def yX4_areHours : MethodName := ⟨RX4, "areHours", "(I)Z"⟩
def dkwX4_areHours_0 : List UInt8 := [26, 133, 9, 20, 0, 92, 184, 0, 88, 172]
abbrev dktX4_areHours_0 : List UInt8 := dkwX4_areHours_0 ++ []
theorem dksX4_areHours_0 : cX4_areHours.data.toList.drop 0 = dktX4_areHours_0 := by decide +kernel
theorem dX4_areHours_0 : decode cX4_areHours 0 = .ok (.iload_n 0, 1) := dk_26 (dk_at dksX4_areHours_0 0 rfl rfl)
theorem dX4_areHours_1 : decode cX4_areHours 1 = .ok (.i2l, 1) := dk_133 (dk_at dksX4_areHours_0 1 rfl rfl)
theorem dX4_areHours_2 : decode cX4_areHours 2 = .ok (.lconst 0, 1) := dk_9 (dk_at dksX4_areHours_0 2 rfl rfl)
theorem dX4_areHours_3 : decode cX4_areHours 3 = .ok (.ldc2_w 92, 3) := dk_20 0 92 (dk_at dksX4_areHours_0 3 rfl rfl)
theorem dX4_areHours_6 : decode cX4_areHours 6 = .ok (.invokestatic 88, 3) := dk_184 0 88 (dk_at dksX4_areHours_0 6 rfl rfl)
theorem dX4_areHours_9 : decode cX4_areHours 9 = .ok (.ireturn, 1) := dk_172 (dk_at dksX4_areHours_0 9 rfl rfl)
abbrev cX4_valueBy : ByteArray := prog_19_method_55_code
def yX4_valueBy : MethodName := ⟨RX4, "valueBy", "(III)J"⟩
def dkwX4_valueBy_1 : List UInt8 := [50, 42, 182, 0, 129, 47, 173]
abbrev dktX4_valueBy_1 : List UInt8 := dkwX4_valueBy_1 ++ []
def dkwX4_valueBy_0 : List UInt8 := [27, 16, 6, 160, 0, 8, 42, 28, 182, 1, 20, 42, 29, 27, 28, 2, 182, 1, 9, 42, 180, 0, 70, 29]
abbrev dktX4_valueBy_0 : List UInt8 := dkwX4_valueBy_0 ++ dktX4_valueBy_1
theorem dksX4_valueBy_0 : cX4_valueBy.data.toList.drop 0 = dktX4_valueBy_0 := by decide +kernel
theorem dksX4_valueBy_1 : cX4_valueBy.data.toList.drop 24 = dktX4_valueBy_1 := dk_seg dksX4_valueBy_0 24 rfl rfl
theorem dX4_valueBy_0 : decode cX4_valueBy 0 = .ok (.iload_n 1, 1) := dk_27 (dk_at dksX4_valueBy_0 0 rfl rfl)
theorem dX4_valueBy_1 : decode cX4_valueBy 1 = .ok (.bipush 6, 2) := dk_16 6 (dk_at dksX4_valueBy_0 1 rfl rfl)
theorem dX4_valueBy_3 : decode cX4_valueBy 3 = .ok (.if_icmp .ne 8, 3) := dk_160 0 8 (dk_at dksX4_valueBy_0 3 rfl rfl)
theorem dX4_valueBy_6 : decode cX4_valueBy 6 = .ok (.aload_n 0, 1) := dk_42 (dk_at dksX4_valueBy_0 6 rfl rfl)
theorem dX4_valueBy_7 : decode cX4_valueBy 7 = .ok (.iload_n 2, 1) := dk_28 (dk_at dksX4_valueBy_0 7 rfl rfl)
theorem dX4_valueBy_8 : decode cX4_valueBy 8 = .ok (.invokevirtual 276, 3) := dk_182 1 20 (dk_at dksX4_valueBy_0 8 rfl rfl)
theorem dX4_valueBy_11 : decode cX4_valueBy 11 = .ok (.aload_n 0, 1) := dk_42 (dk_at dksX4_valueBy_0 11 rfl rfl)
theorem dX4_valueBy_12 : decode cX4_valueBy 12 = .ok (.iload_n 3, 1) := dk_29 (dk_at dksX4_valueBy_0 12 rfl rfl)
theorem dX4_valueBy_13 : decode cX4_valueBy 13 = .ok (.iload_n 1, 1) := dk_27 (dk_at dksX4_valueBy_0 13 rfl rfl)
theorem dX4_valueBy_14 : decode cX4_valueBy 14 = .ok (.iload_n 2, 1) := dk_28 (dk_at dksX4_valueBy_0 14 rfl rfl)
theorem dX4_valueBy_15 : decode cX4_valueBy 15 = .ok (.iconst (-1), 1) := dk_2 (dk_at dksX4_valueBy_0 15 rfl rfl)
theorem dX4_valueBy_16 : decode cX4_valueBy 16 = .ok (.invokevirtual 265, 3) := dk_182 1 9 (dk_at dksX4_valueBy_0 16 rfl rfl)
theorem dX4_valueBy_19 : decode cX4_valueBy 19 = .ok (.aload_n 0, 1) := dk_42 (dk_at dksX4_valueBy_0 19 rfl rfl)
theorem dX4_valueBy_20 : decode cX4_valueBy 20 = .ok (.getfield 70, 3) := dk_180 0 70 (dk_at dksX4_valueBy_0 20 rfl rfl)
theorem dX4_valueBy_23 : decode cX4_valueBy 23 = .ok (.iload_n 3, 1) := dk_29 (dk_at dksX4_valueBy_0 23 rfl rfl)
theorem dX4_valueBy_24 : decode cX4_valueBy 24 = .ok (.aaload, 1) := dk_50 (dk_at dksX4_valueBy_1 0 rfl rfl)
theorem dX4_valueBy_25 : decode cX4_valueBy 25 = .ok (.aload_n 0, 1) := dk_42 (dk_at dksX4_valueBy_1 1 rfl rfl)
theorem dX4_valueBy_26 : decode cX4_valueBy 26 = .ok (.invokevirtual 129, 3) := dk_182 0 129 (dk_at dksX4_valueBy_1 2 rfl rfl)
theorem dX4_valueBy_29 : decode cX4_valueBy 29 = .ok (.laload, 1) := dk_47 (dk_at dksX4_valueBy_1 5 rfl rfl)
theorem dX4_valueBy_30 : decode cX4_valueBy 30 = .ok (.lreturn, 1) := dk_173 (dk_at dksX4_valueBy_1 6 rfl rfl)
abbrev cX4_best : ByteArray := prog_19_method_59_code
def yX4_best : MethodName := ⟨RX4, "best", "(I)J"⟩
def dkwX4_best_1 : List UInt8 := [133, 97, 173]
abbrev dktX4_best_1 : List UInt8 := dkwX4_best_1 ++ []
def dkwX4_best_0 : List UInt8 := [27, 184, 1, 42, 153, 0, 11, 42, 27, 182, 1, 48, 167, 0, 14, 20, 0, 254, 42, 16, 254, 182, 0, 110]
abbrev dktX4_best_0 : List UInt8 := dkwX4_best_0 ++ dktX4_best_1
theorem dksX4_best_0 : cX4_best.data.toList.drop 0 = dktX4_best_0 := by decide +kernel
theorem dksX4_best_1 : cX4_best.data.toList.drop 24 = dktX4_best_1 := dk_seg dksX4_best_0 24 rfl rfl
theorem dX4_best_0 : decode cX4_best 0 = .ok (.iload_n 1, 1) := dk_27 (dk_at dksX4_best_0 0 rfl rfl)
theorem dX4_best_1 : decode cX4_best 1 = .ok (.invokestatic 298, 3) := dk_184 1 42 (dk_at dksX4_best_0 1 rfl rfl)
theorem dX4_best_4 : decode cX4_best 4 = .ok (.ifCond .eq 11, 3) := dk_153 0 11 (dk_at dksX4_best_0 4 rfl rfl)
theorem dX4_best_7 : decode cX4_best 7 = .ok (.aload_n 0, 1) := dk_42 (dk_at dksX4_best_0 7 rfl rfl)
theorem dX4_best_8 : decode cX4_best 8 = .ok (.iload_n 1, 1) := dk_27 (dk_at dksX4_best_0 8 rfl rfl)
theorem dX4_best_9 : decode cX4_best 9 = .ok (.invokevirtual 304, 3) := dk_182 1 48 (dk_at dksX4_best_0 9 rfl rfl)
theorem dX4_best_12 : decode cX4_best 12 = .ok (.goto 14, 3) := dk_167 0 14 (dk_at dksX4_best_0 12 rfl rfl)
theorem dX4_best_15 : decode cX4_best 15 = .ok (.ldc2_w 254, 3) := dk_20 0 254 (dk_at dksX4_best_0 15 rfl rfl)
theorem dX4_best_18 : decode cX4_best 18 = .ok (.aload_n 0, 1) := dk_42 (dk_at dksX4_best_0 18 rfl rfl)
theorem dX4_best_19 : decode cX4_best 19 = .ok (.bipush (-2), 2) := dk_16 254 (dk_at dksX4_best_0 19 rfl rfl)
theorem dX4_best_21 : decode cX4_best 21 = .ok (.invokevirtual 110, 3) := dk_182 0 110 (dk_at dksX4_best_0 21 rfl rfl)
theorem dX4_best_24 : decode cX4_best 24 = .ok (.i2l, 1) := dk_133 (dk_at dksX4_best_1 0 rfl rfl)
theorem dX4_best_25 : decode cX4_best 25 = .ok (.ladd, 1) := dk_97 (dk_at dksX4_best_1 1 rfl rfl)
theorem dX4_best_26 : decode cX4_best 26 = .ok (.lreturn, 1) := dk_173 (dk_at dksX4_best_1 2 rfl rfl)
abbrev cX4_bestNow : ByteArray := prog_19_method_56_code
def yX4_bestNow : MethodName := ⟨RX4, "bestNow", "(I)J"⟩
def dkwX4_bestNow_0 : List UInt8 := [42, 3, 3, 27, 182, 1, 38, 173]
abbrev dktX4_bestNow_0 : List UInt8 := dkwX4_bestNow_0 ++ []
theorem dksX4_bestNow_0 : cX4_bestNow.data.toList.drop 0 = dktX4_bestNow_0 := by decide +kernel
theorem dX4_bestNow_0 : decode cX4_bestNow 0 = .ok (.aload_n 0, 1) := dk_42 (dk_at dksX4_bestNow_0 0 rfl rfl)
theorem dX4_bestNow_1 : decode cX4_bestNow 1 = .ok (.iconst 0, 1) := dk_3 (dk_at dksX4_bestNow_0 1 rfl rfl)
theorem dX4_bestNow_2 : decode cX4_bestNow 2 = .ok (.iconst 0, 1) := dk_3 (dk_at dksX4_bestNow_0 2 rfl rfl)
theorem dX4_bestNow_3 : decode cX4_bestNow 3 = .ok (.iload_n 1, 1) := dk_27 (dk_at dksX4_bestNow_0 3 rfl rfl)
theorem dX4_bestNow_4 : decode cX4_bestNow 4 = .ok (.invokevirtual 294, 3) := dk_182 1 38 (dk_at dksX4_bestNow_0 4 rfl rfl)
theorem dX4_bestNow_7 : decode cX4_bestNow 7 = .ok (.lreturn, 1) := dk_173 (dk_at dksX4_bestNow_0 7 rfl rfl)
abbrev cX4_now : ByteArray := prog_19_method_60_code
def yX4_now : MethodName := ⟨RX4, "now", "(II)I"⟩
def dkwX4_now_1 : List UInt8 := [28, 3, 3, 2, 182, 1, 9, 42, 27, 42, 182, 0, 129, 42, 180, 0, 70, 28, 50, 182, 1, 16, 172]
abbrev dktX4_now_1 : List UInt8 := dkwX4_now_1 ++ []
def dkwX4_now_0 : List UInt8 := [42, 27, 133, 182, 0, 153, 153, 0, 10, 28, 184, 1, 42, 154, 0, 10, 42, 16, 254, 182, 0, 110, 172, 42]
abbrev dktX4_now_0 : List UInt8 := dkwX4_now_0 ++ dktX4_now_1
theorem dksX4_now_0 : cX4_now.data.toList.drop 0 = dktX4_now_0 := by decide +kernel
theorem dksX4_now_1 : cX4_now.data.toList.drop 24 = dktX4_now_1 := dk_seg dksX4_now_0 24 rfl rfl
theorem dX4_now_0 : decode cX4_now 0 = .ok (.aload_n 0, 1) := dk_42 (dk_at dksX4_now_0 0 rfl rfl)
theorem dX4_now_1 : decode cX4_now 1 = .ok (.iload_n 1, 1) := dk_27 (dk_at dksX4_now_0 1 rfl rfl)
theorem dX4_now_2 : decode cX4_now 2 = .ok (.i2l, 1) := dk_133 (dk_at dksX4_now_0 2 rfl rfl)
theorem dX4_now_3 : decode cX4_now 3 = .ok (.invokevirtual 153, 3) := dk_182 0 153 (dk_at dksX4_now_0 3 rfl rfl)
theorem dX4_now_6 : decode cX4_now 6 = .ok (.ifCond .eq 10, 3) := dk_153 0 10 (dk_at dksX4_now_0 6 rfl rfl)
theorem dX4_now_9 : decode cX4_now 9 = .ok (.iload_n 2, 1) := dk_28 (dk_at dksX4_now_0 9 rfl rfl)
theorem dX4_now_10 : decode cX4_now 10 = .ok (.invokestatic 298, 3) := dk_184 1 42 (dk_at dksX4_now_0 10 rfl rfl)
theorem dX4_now_13 : decode cX4_now 13 = .ok (.ifCond .ne 10, 3) := dk_154 0 10 (dk_at dksX4_now_0 13 rfl rfl)
theorem dX4_now_16 : decode cX4_now 16 = .ok (.aload_n 0, 1) := dk_42 (dk_at dksX4_now_0 16 rfl rfl)
theorem dX4_now_17 : decode cX4_now 17 = .ok (.bipush (-2), 2) := dk_16 254 (dk_at dksX4_now_0 17 rfl rfl)
theorem dX4_now_19 : decode cX4_now 19 = .ok (.invokevirtual 110, 3) := dk_182 0 110 (dk_at dksX4_now_0 19 rfl rfl)
theorem dX4_now_22 : decode cX4_now 22 = .ok (.ireturn, 1) := dk_172 (dk_at dksX4_now_0 22 rfl rfl)
theorem dX4_now_23 : decode cX4_now 23 = .ok (.aload_n 0, 1) := dk_42 (dk_at dksX4_now_0 23 rfl rfl)
theorem dX4_now_24 : decode cX4_now 24 = .ok (.iload_n 2, 1) := dk_28 (dk_at dksX4_now_1 0 rfl rfl)
theorem dX4_now_25 : decode cX4_now 25 = .ok (.iconst 0, 1) := dk_3 (dk_at dksX4_now_1 1 rfl rfl)
theorem dX4_now_26 : decode cX4_now 26 = .ok (.iconst 0, 1) := dk_3 (dk_at dksX4_now_1 2 rfl rfl)
theorem dX4_now_27 : decode cX4_now 27 = .ok (.iconst (-1), 1) := dk_2 (dk_at dksX4_now_1 3 rfl rfl)
theorem dX4_now_28 : decode cX4_now 28 = .ok (.invokevirtual 265, 3) := dk_182 1 9 (dk_at dksX4_now_1 4 rfl rfl)
theorem dX4_now_31 : decode cX4_now 31 = .ok (.aload_n 0, 1) := dk_42 (dk_at dksX4_now_1 7 rfl rfl)
theorem dX4_now_32 : decode cX4_now 32 = .ok (.iload_n 1, 1) := dk_27 (dk_at dksX4_now_1 8 rfl rfl)
theorem dX4_now_33 : decode cX4_now 33 = .ok (.aload_n 0, 1) := dk_42 (dk_at dksX4_now_1 9 rfl rfl)
theorem dX4_now_34 : decode cX4_now 34 = .ok (.invokevirtual 129, 3) := dk_182 0 129 (dk_at dksX4_now_1 10 rfl rfl)
theorem dX4_now_37 : decode cX4_now 37 = .ok (.aload_n 0, 1) := dk_42 (dk_at dksX4_now_1 13 rfl rfl)
theorem dX4_now_38 : decode cX4_now 38 = .ok (.getfield 70, 3) := dk_180 0 70 (dk_at dksX4_now_1 14 rfl rfl)
theorem dX4_now_41 : decode cX4_now 41 = .ok (.iload_n 2, 1) := dk_28 (dk_at dksX4_now_1 17 rfl rfl)
theorem dX4_now_42 : decode cX4_now 42 = .ok (.aaload, 1) := dk_50 (dk_at dksX4_now_1 18 rfl rfl)
theorem dX4_now_43 : decode cX4_now 43 = .ok (.invokevirtual 272, 3) := dk_182 1 16 (dk_at dksX4_now_1 19 rfl rfl)
theorem dX4_now_46 : decode cX4_now 46 = .ok (.ireturn, 1) := dk_172 (dk_at dksX4_now_1 22 rfl rfl)
abbrev cX4_gap : ByteArray := prog_19_method_61_code
def yX4_gap : MethodName := ⟨RX4, "gap", "(II)J"⟩
def dkwX4_gap_1 : List UInt8 := [182, 1, 48, 42, 42, 180, 0, 28, 27, 46, 42, 180, 0, 31, 27, 46, 28, 182, 1, 38, 101, 173]
abbrev dktX4_gap_1 : List UInt8 := dkwX4_gap_1 ++ []
def dkwX4_gap_0 : List UInt8 := [42, 27, 28, 182, 1, 45, 66, 33, 9, 148, 153, 0, 11, 20, 0, 254, 33, 97, 167, 0, 26, 42, 28]
abbrev dktX4_gap_0 : List UInt8 := dkwX4_gap_0 ++ dktX4_gap_1
theorem dksX4_gap_0 : cX4_gap.data.toList.drop 0 = dktX4_gap_0 := by decide +kernel
theorem dksX4_gap_1 : cX4_gap.data.toList.drop 23 = dktX4_gap_1 := dk_seg dksX4_gap_0 23 rfl rfl
theorem dX4_gap_0 : decode cX4_gap 0 = .ok (.aload_n 0, 1) := dk_42 (dk_at dksX4_gap_0 0 rfl rfl)
theorem dX4_gap_1 : decode cX4_gap 1 = .ok (.iload_n 1, 1) := dk_27 (dk_at dksX4_gap_0 1 rfl rfl)
theorem dX4_gap_2 : decode cX4_gap 2 = .ok (.iload_n 2, 1) := dk_28 (dk_at dksX4_gap_0 2 rfl rfl)
theorem dX4_gap_3 : decode cX4_gap 3 = .ok (.invokevirtual 301, 3) := dk_182 1 45 (dk_at dksX4_gap_0 3 rfl rfl)
theorem dX4_gap_6 : decode cX4_gap 6 = .ok (.lstore_n 3, 1) := dk_66 (dk_at dksX4_gap_0 6 rfl rfl)
theorem dX4_gap_7 : decode cX4_gap 7 = .ok (.lload_n 3, 1) := dk_33 (dk_at dksX4_gap_0 7 rfl rfl)
theorem dX4_gap_8 : decode cX4_gap 8 = .ok (.lconst 0, 1) := dk_9 (dk_at dksX4_gap_0 8 rfl rfl)
theorem dX4_gap_9 : decode cX4_gap 9 = .ok (.lcmp, 1) := dk_148 (dk_at dksX4_gap_0 9 rfl rfl)
theorem dX4_gap_10 : decode cX4_gap 10 = .ok (.ifCond .eq 11, 3) := dk_153 0 11 (dk_at dksX4_gap_0 10 rfl rfl)
theorem dX4_gap_13 : decode cX4_gap 13 = .ok (.ldc2_w 254, 3) := dk_20 0 254 (dk_at dksX4_gap_0 13 rfl rfl)
theorem dX4_gap_16 : decode cX4_gap 16 = .ok (.lload_n 3, 1) := dk_33 (dk_at dksX4_gap_0 16 rfl rfl)
theorem dX4_gap_17 : decode cX4_gap 17 = .ok (.ladd, 1) := dk_97 (dk_at dksX4_gap_0 17 rfl rfl)
theorem dX4_gap_18 : decode cX4_gap 18 = .ok (.goto 26, 3) := dk_167 0 26 (dk_at dksX4_gap_0 18 rfl rfl)
theorem dX4_gap_21 : decode cX4_gap 21 = .ok (.aload_n 0, 1) := dk_42 (dk_at dksX4_gap_0 21 rfl rfl)
theorem dX4_gap_22 : decode cX4_gap 22 = .ok (.iload_n 2, 1) := dk_28 (dk_at dksX4_gap_0 22 rfl rfl)
theorem dX4_gap_23 : decode cX4_gap 23 = .ok (.invokevirtual 304, 3) := dk_182 1 48 (dk_at dksX4_gap_1 0 rfl rfl)
theorem dX4_gap_26 : decode cX4_gap 26 = .ok (.aload_n 0, 1) := dk_42 (dk_at dksX4_gap_1 3 rfl rfl)
theorem dX4_gap_27 : decode cX4_gap 27 = .ok (.aload_n 0, 1) := dk_42 (dk_at dksX4_gap_1 4 rfl rfl)
theorem dX4_gap_28 : decode cX4_gap 28 = .ok (.getfield 28, 3) := dk_180 0 28 (dk_at dksX4_gap_1 5 rfl rfl)
theorem dX4_gap_31 : decode cX4_gap 31 = .ok (.iload_n 1, 1) := dk_27 (dk_at dksX4_gap_1 8 rfl rfl)
theorem dX4_gap_32 : decode cX4_gap 32 = .ok (.iaload, 1) := dk_46 (dk_at dksX4_gap_1 9 rfl rfl)
theorem dX4_gap_33 : decode cX4_gap 33 = .ok (.aload_n 0, 1) := dk_42 (dk_at dksX4_gap_1 10 rfl rfl)
theorem dX4_gap_34 : decode cX4_gap 34 = .ok (.getfield 31, 3) := dk_180 0 31 (dk_at dksX4_gap_1 11 rfl rfl)
theorem dX4_gap_37 : decode cX4_gap 37 = .ok (.iload_n 1, 1) := dk_27 (dk_at dksX4_gap_1 14 rfl rfl)
theorem dX4_gap_38 : decode cX4_gap 38 = .ok (.iaload, 1) := dk_46 (dk_at dksX4_gap_1 15 rfl rfl)
theorem dX4_gap_39 : decode cX4_gap 39 = .ok (.iload_n 2, 1) := dk_28 (dk_at dksX4_gap_1 16 rfl rfl)
theorem dX4_gap_40 : decode cX4_gap 40 = .ok (.invokevirtual 294, 3) := dk_182 1 38 (dk_at dksX4_gap_1 17 rfl rfl)
theorem dX4_gap_43 : decode cX4_gap 43 = .ok (.lsub, 1) := dk_101 (dk_at dksX4_gap_1 20 rfl rfl)
theorem dX4_gap_44 : decode cX4_gap 44 = .ok (.lreturn, 1) := dk_173 (dk_at dksX4_gap_1 21 rfl rfl)
abbrev cX4_head : ByteArray := prog_19_method_62_code
def yX4_head : MethodName := ⟨RX4, "head", "(I)I"⟩
def dkwX4_head_4 : List UInt8 := [182, 0, 110, 167, 0, 4, 28, 172]
abbrev dktX4_head_4 : List UInt8 := dkwX4_head_4 ++ []
def dkwX4_head_3 : List UInt8 := [158, 0, 9, 21, 5, 61, 22, 6, 66, 132, 5, 1, 167, 255, 196, 28, 2, 160, 0, 12, 42, 16, 251]
abbrev dktX4_head_3 : List UInt8 := dkwX4_head_3 ++ dktX4_head_4
def dkwX4_head_2 : List UInt8 := [42, 180, 0, 31, 21, 5, 46, 27, 182, 1, 38, 55, 6, 28, 2, 159, 0, 10, 22, 6, 33, 148]
abbrev dktX4_head_2 : List UInt8 := dkwX4_head_2 ++ dktX4_head_3
def dkwX4_head_1 : List UInt8 := [16, 8, 162, 0, 59, 42, 180, 0, 7, 21, 5, 46, 5, 160, 0, 42, 42, 42, 180, 0, 28, 21, 5, 46]
abbrev dktX4_head_1 : List UInt8 := dkwX4_head_1 ++ dktX4_head_2
def dkwX4_head_0 : List UInt8 := [27, 184, 1, 42, 154, 0, 10, 42, 16, 254, 182, 0, 110, 172, 2, 61, 9, 66, 3, 54, 5, 21, 5]
abbrev dktX4_head_0 : List UInt8 := dkwX4_head_0 ++ dktX4_head_1
theorem dksX4_head_0 : cX4_head.data.toList.drop 0 = dktX4_head_0 := by decide +kernel
theorem dksX4_head_1 : cX4_head.data.toList.drop 23 = dktX4_head_1 := dk_seg dksX4_head_0 23 rfl rfl
theorem dksX4_head_2 : cX4_head.data.toList.drop 47 = dktX4_head_2 := dk_seg dksX4_head_1 24 rfl rfl
theorem dksX4_head_3 : cX4_head.data.toList.drop 69 = dktX4_head_3 := dk_seg dksX4_head_2 22 rfl rfl
theorem dksX4_head_4 : cX4_head.data.toList.drop 92 = dktX4_head_4 := dk_seg dksX4_head_3 23 rfl rfl
theorem dX4_head_0 : decode cX4_head 0 = .ok (.iload_n 1, 1) := dk_27 (dk_at dksX4_head_0 0 rfl rfl)
theorem dX4_head_1 : decode cX4_head 1 = .ok (.invokestatic 298, 3) := dk_184 1 42 (dk_at dksX4_head_0 1 rfl rfl)
theorem dX4_head_4 : decode cX4_head 4 = .ok (.ifCond .ne 10, 3) := dk_154 0 10 (dk_at dksX4_head_0 4 rfl rfl)
theorem dX4_head_7 : decode cX4_head 7 = .ok (.aload_n 0, 1) := dk_42 (dk_at dksX4_head_0 7 rfl rfl)
theorem dX4_head_8 : decode cX4_head 8 = .ok (.bipush (-2), 2) := dk_16 254 (dk_at dksX4_head_0 8 rfl rfl)
theorem dX4_head_10 : decode cX4_head 10 = .ok (.invokevirtual 110, 3) := dk_182 0 110 (dk_at dksX4_head_0 10 rfl rfl)
theorem dX4_head_13 : decode cX4_head 13 = .ok (.ireturn, 1) := dk_172 (dk_at dksX4_head_0 13 rfl rfl)
theorem dX4_head_14 : decode cX4_head 14 = .ok (.iconst (-1), 1) := dk_2 (dk_at dksX4_head_0 14 rfl rfl)
theorem dX4_head_15 : decode cX4_head 15 = .ok (.istore_n 2, 1) := dk_61 (dk_at dksX4_head_0 15 rfl rfl)
theorem dX4_head_16 : decode cX4_head 16 = .ok (.lconst 0, 1) := dk_9 (dk_at dksX4_head_0 16 rfl rfl)
theorem dX4_head_17 : decode cX4_head 17 = .ok (.lstore_n 3, 1) := dk_66 (dk_at dksX4_head_0 17 rfl rfl)
theorem dX4_head_18 : decode cX4_head 18 = .ok (.iconst 0, 1) := dk_3 (dk_at dksX4_head_0 18 rfl rfl)
theorem dX4_head_19 : decode cX4_head 19 = .ok (.istore 5, 2) := dk_54 5 (dk_at dksX4_head_0 19 rfl rfl)
theorem dX4_head_21 : decode cX4_head 21 = .ok (.iload 5, 2) := dk_21 5 (dk_at dksX4_head_0 21 rfl rfl)
theorem dX4_head_23 : decode cX4_head 23 = .ok (.bipush 8, 2) := dk_16 8 (dk_at dksX4_head_1 0 rfl rfl)
theorem dX4_head_25 : decode cX4_head 25 = .ok (.if_icmp .ge 59, 3) := dk_162 0 59 (dk_at dksX4_head_1 2 rfl rfl)
theorem dX4_head_28 : decode cX4_head 28 = .ok (.aload_n 0, 1) := dk_42 (dk_at dksX4_head_1 5 rfl rfl)
theorem dX4_head_29 : decode cX4_head 29 = .ok (.getfield 7, 3) := dk_180 0 7 (dk_at dksX4_head_1 6 rfl rfl)
theorem dX4_head_32 : decode cX4_head 32 = .ok (.iload 5, 2) := dk_21 5 (dk_at dksX4_head_1 9 rfl rfl)
theorem dX4_head_34 : decode cX4_head 34 = .ok (.iaload, 1) := dk_46 (dk_at dksX4_head_1 11 rfl rfl)
theorem dX4_head_35 : decode cX4_head 35 = .ok (.iconst 2, 1) := dk_5 (dk_at dksX4_head_1 12 rfl rfl)
theorem dX4_head_36 : decode cX4_head 36 = .ok (.if_icmp .ne 42, 3) := dk_160 0 42 (dk_at dksX4_head_1 13 rfl rfl)
theorem dX4_head_39 : decode cX4_head 39 = .ok (.aload_n 0, 1) := dk_42 (dk_at dksX4_head_1 16 rfl rfl)
theorem dX4_head_40 : decode cX4_head 40 = .ok (.aload_n 0, 1) := dk_42 (dk_at dksX4_head_1 17 rfl rfl)
theorem dX4_head_41 : decode cX4_head 41 = .ok (.getfield 28, 3) := dk_180 0 28 (dk_at dksX4_head_1 18 rfl rfl)
theorem dX4_head_44 : decode cX4_head 44 = .ok (.iload 5, 2) := dk_21 5 (dk_at dksX4_head_1 21 rfl rfl)
theorem dX4_head_46 : decode cX4_head 46 = .ok (.iaload, 1) := dk_46 (dk_at dksX4_head_1 23 rfl rfl)
theorem dX4_head_47 : decode cX4_head 47 = .ok (.aload_n 0, 1) := dk_42 (dk_at dksX4_head_2 0 rfl rfl)
theorem dX4_head_48 : decode cX4_head 48 = .ok (.getfield 31, 3) := dk_180 0 31 (dk_at dksX4_head_2 1 rfl rfl)
theorem dX4_head_51 : decode cX4_head 51 = .ok (.iload 5, 2) := dk_21 5 (dk_at dksX4_head_2 4 rfl rfl)
theorem dX4_head_53 : decode cX4_head 53 = .ok (.iaload, 1) := dk_46 (dk_at dksX4_head_2 6 rfl rfl)
theorem dX4_head_54 : decode cX4_head 54 = .ok (.iload_n 1, 1) := dk_27 (dk_at dksX4_head_2 7 rfl rfl)
theorem dX4_head_55 : decode cX4_head 55 = .ok (.invokevirtual 294, 3) := dk_182 1 38 (dk_at dksX4_head_2 8 rfl rfl)
theorem dX4_head_58 : decode cX4_head 58 = .ok (.lstore 6, 2) := dk_55 6 (dk_at dksX4_head_2 11 rfl rfl)
theorem dX4_head_60 : decode cX4_head 60 = .ok (.iload_n 2, 1) := dk_28 (dk_at dksX4_head_2 13 rfl rfl)
theorem dX4_head_61 : decode cX4_head 61 = .ok (.iconst (-1), 1) := dk_2 (dk_at dksX4_head_2 14 rfl rfl)
theorem dX4_head_62 : decode cX4_head 62 = .ok (.if_icmp .eq 10, 3) := dk_159 0 10 (dk_at dksX4_head_2 15 rfl rfl)
theorem dX4_head_65 : decode cX4_head 65 = .ok (.lload 6, 2) := dk_22 6 (dk_at dksX4_head_2 18 rfl rfl)
theorem dX4_head_67 : decode cX4_head 67 = .ok (.lload_n 3, 1) := dk_33 (dk_at dksX4_head_2 20 rfl rfl)
theorem dX4_head_68 : decode cX4_head 68 = .ok (.lcmp, 1) := dk_148 (dk_at dksX4_head_2 21 rfl rfl)
theorem dX4_head_69 : decode cX4_head 69 = .ok (.ifCond .le 9, 3) := dk_158 0 9 (dk_at dksX4_head_3 0 rfl rfl)
theorem dX4_head_72 : decode cX4_head 72 = .ok (.iload 5, 2) := dk_21 5 (dk_at dksX4_head_3 3 rfl rfl)
theorem dX4_head_74 : decode cX4_head 74 = .ok (.istore_n 2, 1) := dk_61 (dk_at dksX4_head_3 5 rfl rfl)
theorem dX4_head_75 : decode cX4_head 75 = .ok (.lload 6, 2) := dk_22 6 (dk_at dksX4_head_3 6 rfl rfl)
theorem dX4_head_77 : decode cX4_head 77 = .ok (.lstore_n 3, 1) := dk_66 (dk_at dksX4_head_3 8 rfl rfl)
theorem dX4_head_78 : decode cX4_head 78 = .ok (.iinc 5 1, 3) := dk_132 5 1 (dk_at dksX4_head_3 9 rfl rfl)
theorem dX4_head_81 : decode cX4_head 81 = .ok (.goto (-60), 3) := dk_167 255 196 (dk_at dksX4_head_3 12 rfl rfl)
theorem dX4_head_84 : decode cX4_head 84 = .ok (.iload_n 2, 1) := dk_28 (dk_at dksX4_head_3 15 rfl rfl)
theorem dX4_head_85 : decode cX4_head 85 = .ok (.iconst (-1), 1) := dk_2 (dk_at dksX4_head_3 16 rfl rfl)
theorem dX4_head_86 : decode cX4_head 86 = .ok (.if_icmp .ne 12, 3) := dk_160 0 12 (dk_at dksX4_head_3 17 rfl rfl)
theorem dX4_head_89 : decode cX4_head 89 = .ok (.aload_n 0, 1) := dk_42 (dk_at dksX4_head_3 20 rfl rfl)
theorem dX4_head_90 : decode cX4_head 90 = .ok (.bipush (-5), 2) := dk_16 251 (dk_at dksX4_head_3 21 rfl rfl)
theorem dX4_head_92 : decode cX4_head 92 = .ok (.invokevirtual 110, 3) := dk_182 0 110 (dk_at dksX4_head_4 0 rfl rfl)
theorem dX4_head_95 : decode cX4_head 95 = .ok (.goto 4, 3) := dk_167 0 4 (dk_at dksX4_head_4 3 rfl rfl)
theorem dX4_head_98 : decode cX4_head 98 = .ok (.iload_n 2, 1) := dk_28 (dk_at dksX4_head_4 6 rfl rfl)
theorem dX4_head_99 : decode cX4_head 99 = .ok (.ireturn, 1) := dk_172 (dk_at dksX4_head_4 7 rfl rfl)
abbrev cX4_keep : ByteArray := prog_19_method_63_code
def yX4_keep : MethodName := ⟨RX4, "keep", "(I)I"⟩
def dkwX4_keep_2 : List UInt8 := [158, 0, 9, 21, 5, 61, 22, 6, 66, 132, 5, 1, 167, 255, 224, 28, 172]
abbrev dktX4_keep_2 : List UInt8 := dkwX4_keep_2 ++ []
def dkwX4_keep_1 : List UInt8 := [4, 54, 5, 21, 5, 7, 163, 0, 32, 42, 5, 21, 5, 27, 182, 1, 38, 55, 6, 22, 6, 33, 148]
abbrev dktX4_keep_1 : List UInt8 := dkwX4_keep_1 ++ dktX4_keep_2
def dkwX4_keep_0 : List UInt8 := [27, 184, 1, 42, 154, 0, 10, 42, 16, 254, 182, 0, 110, 172, 3, 61, 42, 5, 3, 27, 182, 1, 38, 66]
abbrev dktX4_keep_0 : List UInt8 := dkwX4_keep_0 ++ dktX4_keep_1
theorem dksX4_keep_0 : cX4_keep.data.toList.drop 0 = dktX4_keep_0 := by decide +kernel
theorem dksX4_keep_1 : cX4_keep.data.toList.drop 24 = dktX4_keep_1 := dk_seg dksX4_keep_0 24 rfl rfl
theorem dksX4_keep_2 : cX4_keep.data.toList.drop 47 = dktX4_keep_2 := dk_seg dksX4_keep_1 23 rfl rfl
theorem dX4_keep_0 : decode cX4_keep 0 = .ok (.iload_n 1, 1) := dk_27 (dk_at dksX4_keep_0 0 rfl rfl)
theorem dX4_keep_1 : decode cX4_keep 1 = .ok (.invokestatic 298, 3) := dk_184 1 42 (dk_at dksX4_keep_0 1 rfl rfl)
theorem dX4_keep_4 : decode cX4_keep 4 = .ok (.ifCond .ne 10, 3) := dk_154 0 10 (dk_at dksX4_keep_0 4 rfl rfl)
theorem dX4_keep_7 : decode cX4_keep 7 = .ok (.aload_n 0, 1) := dk_42 (dk_at dksX4_keep_0 7 rfl rfl)
theorem dX4_keep_8 : decode cX4_keep 8 = .ok (.bipush (-2), 2) := dk_16 254 (dk_at dksX4_keep_0 8 rfl rfl)
theorem dX4_keep_10 : decode cX4_keep 10 = .ok (.invokevirtual 110, 3) := dk_182 0 110 (dk_at dksX4_keep_0 10 rfl rfl)
theorem dX4_keep_13 : decode cX4_keep 13 = .ok (.ireturn, 1) := dk_172 (dk_at dksX4_keep_0 13 rfl rfl)
theorem dX4_keep_14 : decode cX4_keep 14 = .ok (.iconst 0, 1) := dk_3 (dk_at dksX4_keep_0 14 rfl rfl)
theorem dX4_keep_15 : decode cX4_keep 15 = .ok (.istore_n 2, 1) := dk_61 (dk_at dksX4_keep_0 15 rfl rfl)
theorem dX4_keep_16 : decode cX4_keep 16 = .ok (.aload_n 0, 1) := dk_42 (dk_at dksX4_keep_0 16 rfl rfl)
theorem dX4_keep_17 : decode cX4_keep 17 = .ok (.iconst 2, 1) := dk_5 (dk_at dksX4_keep_0 17 rfl rfl)
theorem dX4_keep_18 : decode cX4_keep 18 = .ok (.iconst 0, 1) := dk_3 (dk_at dksX4_keep_0 18 rfl rfl)
theorem dX4_keep_19 : decode cX4_keep 19 = .ok (.iload_n 1, 1) := dk_27 (dk_at dksX4_keep_0 19 rfl rfl)
theorem dX4_keep_20 : decode cX4_keep 20 = .ok (.invokevirtual 294, 3) := dk_182 1 38 (dk_at dksX4_keep_0 20 rfl rfl)
theorem dX4_keep_23 : decode cX4_keep 23 = .ok (.lstore_n 3, 1) := dk_66 (dk_at dksX4_keep_0 23 rfl rfl)
theorem dX4_keep_24 : decode cX4_keep 24 = .ok (.iconst 1, 1) := dk_4 (dk_at dksX4_keep_1 0 rfl rfl)
theorem dX4_keep_25 : decode cX4_keep 25 = .ok (.istore 5, 2) := dk_54 5 (dk_at dksX4_keep_1 1 rfl rfl)
theorem dX4_keep_27 : decode cX4_keep 27 = .ok (.iload 5, 2) := dk_21 5 (dk_at dksX4_keep_1 3 rfl rfl)
theorem dX4_keep_29 : decode cX4_keep 29 = .ok (.iconst 4, 1) := dk_7 (dk_at dksX4_keep_1 5 rfl rfl)
theorem dX4_keep_30 : decode cX4_keep 30 = .ok (.if_icmp .gt 32, 3) := dk_163 0 32 (dk_at dksX4_keep_1 6 rfl rfl)
theorem dX4_keep_33 : decode cX4_keep 33 = .ok (.aload_n 0, 1) := dk_42 (dk_at dksX4_keep_1 9 rfl rfl)
theorem dX4_keep_34 : decode cX4_keep 34 = .ok (.iconst 2, 1) := dk_5 (dk_at dksX4_keep_1 10 rfl rfl)
theorem dX4_keep_35 : decode cX4_keep 35 = .ok (.iload 5, 2) := dk_21 5 (dk_at dksX4_keep_1 11 rfl rfl)
theorem dX4_keep_37 : decode cX4_keep 37 = .ok (.iload_n 1, 1) := dk_27 (dk_at dksX4_keep_1 13 rfl rfl)
theorem dX4_keep_38 : decode cX4_keep 38 = .ok (.invokevirtual 294, 3) := dk_182 1 38 (dk_at dksX4_keep_1 14 rfl rfl)
theorem dX4_keep_41 : decode cX4_keep 41 = .ok (.lstore 6, 2) := dk_55 6 (dk_at dksX4_keep_1 17 rfl rfl)
theorem dX4_keep_43 : decode cX4_keep 43 = .ok (.lload 6, 2) := dk_22 6 (dk_at dksX4_keep_1 19 rfl rfl)
theorem dX4_keep_45 : decode cX4_keep 45 = .ok (.lload_n 3, 1) := dk_33 (dk_at dksX4_keep_1 21 rfl rfl)
theorem dX4_keep_46 : decode cX4_keep 46 = .ok (.lcmp, 1) := dk_148 (dk_at dksX4_keep_1 22 rfl rfl)
theorem dX4_keep_47 : decode cX4_keep 47 = .ok (.ifCond .le 9, 3) := dk_158 0 9 (dk_at dksX4_keep_2 0 rfl rfl)
theorem dX4_keep_50 : decode cX4_keep 50 = .ok (.iload 5, 2) := dk_21 5 (dk_at dksX4_keep_2 3 rfl rfl)
theorem dX4_keep_52 : decode cX4_keep 52 = .ok (.istore_n 2, 1) := dk_61 (dk_at dksX4_keep_2 5 rfl rfl)
theorem dX4_keep_53 : decode cX4_keep 53 = .ok (.lload 6, 2) := dk_22 6 (dk_at dksX4_keep_2 6 rfl rfl)
theorem dX4_keep_55 : decode cX4_keep 55 = .ok (.lstore_n 3, 1) := dk_66 (dk_at dksX4_keep_2 8 rfl rfl)
theorem dX4_keep_56 : decode cX4_keep 56 = .ok (.iinc 5 1, 3) := dk_132 5 1 (dk_at dksX4_keep_2 9 rfl rfl)
theorem dX4_keep_59 : decode cX4_keep 59 = .ok (.goto (-32), 3) := dk_167 255 224 (dk_at dksX4_keep_2 12 rfl rfl)
theorem dX4_keep_62 : decode cX4_keep 62 = .ok (.iload_n 2, 1) := dk_28 (dk_at dksX4_keep_2 15 rfl rfl)
theorem dX4_keep_63 : decode cX4_keep 63 = .ok (.ireturn, 1) := dk_172 (dk_at dksX4_keep_2 16 rfl rfl)
abbrev cX4_cart : ByteArray := prog_19_method_66_code
def yX4_cart : MethodName := ⟨RX4, "cart", "(IIII)J"⟩
def dkwX4_cart_6 : List UInt8 := [180, 0, 82, 21, 4, 46, 133, 173]
abbrev dktX4_cart_6 : List UInt8 := dkwX4_cart_6 ++ []
def dkwX4_cart_5 : List UInt8 := [182, 0, 129, 9, 29, 182, 1, 62, 21, 4, 2, 160, 0, 10, 42, 180, 1, 55, 167, 0, 11, 42]
abbrev dktX4_cart_5 : List UInt8 := dkwX4_cart_5 ++ dktX4_cart_6
def dkwX4_cart_4 : List UInt8 := [182, 0, 110, 133, 97, 173, 42, 29, 3, 3, 2, 182, 1, 9, 42, 3, 181, 1, 51, 42, 3, 28, 42]
abbrev dktX4_cart_4 : List UInt8 := dkwX4_cart_4 ++ dktX4_cart_5
def dkwX4_cart_3 : List UInt8 := [20, 0, 254, 21, 5, 133, 97, 173, 42, 27, 28, 182, 1, 68, 154, 0, 15, 20, 0, 254, 42, 16, 254]
abbrev dktX4_cart_3 : List UInt8 := dkwX4_cart_3 ++ dktX4_cart_4
def dkwX4_cart_2 : List UInt8 := [20, 0, 254, 42, 16, 254, 182, 0, 110, 133, 97, 173, 42, 27, 182, 0, 150, 54, 5, 21, 5, 153, 0, 11]
abbrev dktX4_cart_2 : List UInt8 := dkwX4_cart_2 ++ dktX4_cart_3
def dkwX4_cart_1 : List UInt8 := [29, 184, 1, 42, 153, 0, 19, 21, 4, 133, 20, 1, 66, 28, 4, 100, 133, 184, 0, 88, 154, 0, 15]
abbrev dktX4_cart_1 : List UInt8 := dkwX4_cart_1 ++ dktX4_cart_2
def dkwX4_cart_0 : List UInt8 := [27, 133, 9, 20, 0, 104, 184, 0, 88, 153, 0, 38, 28, 133, 9, 20, 0, 118, 184, 0, 88, 153, 0, 26]
abbrev dktX4_cart_0 : List UInt8 := dkwX4_cart_0 ++ dktX4_cart_1
theorem dksX4_cart_0 : cX4_cart.data.toList.drop 0 = dktX4_cart_0 := by decide +kernel
theorem dksX4_cart_1 : cX4_cart.data.toList.drop 24 = dktX4_cart_1 := dk_seg dksX4_cart_0 24 rfl rfl
theorem dksX4_cart_2 : cX4_cart.data.toList.drop 47 = dktX4_cart_2 := dk_seg dksX4_cart_1 23 rfl rfl
theorem dksX4_cart_3 : cX4_cart.data.toList.drop 71 = dktX4_cart_3 := dk_seg dksX4_cart_2 24 rfl rfl
theorem dksX4_cart_4 : cX4_cart.data.toList.drop 94 = dktX4_cart_4 := dk_seg dksX4_cart_3 23 rfl rfl
theorem dksX4_cart_5 : cX4_cart.data.toList.drop 117 = dktX4_cart_5 := dk_seg dksX4_cart_4 23 rfl rfl
theorem dksX4_cart_6 : cX4_cart.data.toList.drop 139 = dktX4_cart_6 := dk_seg dksX4_cart_5 22 rfl rfl
theorem dX4_cart_0 : decode cX4_cart 0 = .ok (.iload_n 1, 1) := dk_27 (dk_at dksX4_cart_0 0 rfl rfl)
theorem dX4_cart_1 : decode cX4_cart 1 = .ok (.i2l, 1) := dk_133 (dk_at dksX4_cart_0 1 rfl rfl)
theorem dX4_cart_2 : decode cX4_cart 2 = .ok (.lconst 0, 1) := dk_9 (dk_at dksX4_cart_0 2 rfl rfl)
theorem dX4_cart_3 : decode cX4_cart 3 = .ok (.ldc2_w 104, 3) := dk_20 0 104 (dk_at dksX4_cart_0 3 rfl rfl)
theorem dX4_cart_6 : decode cX4_cart 6 = .ok (.invokestatic 88, 3) := dk_184 0 88 (dk_at dksX4_cart_0 6 rfl rfl)
theorem dX4_cart_9 : decode cX4_cart 9 = .ok (.ifCond .eq 38, 3) := dk_153 0 38 (dk_at dksX4_cart_0 9 rfl rfl)
theorem dX4_cart_12 : decode cX4_cart 12 = .ok (.iload_n 2, 1) := dk_28 (dk_at dksX4_cart_0 12 rfl rfl)
theorem dX4_cart_13 : decode cX4_cart 13 = .ok (.i2l, 1) := dk_133 (dk_at dksX4_cart_0 13 rfl rfl)
theorem dX4_cart_14 : decode cX4_cart 14 = .ok (.lconst 0, 1) := dk_9 (dk_at dksX4_cart_0 14 rfl rfl)
theorem dX4_cart_15 : decode cX4_cart 15 = .ok (.ldc2_w 118, 3) := dk_20 0 118 (dk_at dksX4_cart_0 15 rfl rfl)
theorem dX4_cart_18 : decode cX4_cart 18 = .ok (.invokestatic 88, 3) := dk_184 0 88 (dk_at dksX4_cart_0 18 rfl rfl)
theorem dX4_cart_21 : decode cX4_cart 21 = .ok (.ifCond .eq 26, 3) := dk_153 0 26 (dk_at dksX4_cart_0 21 rfl rfl)
theorem dX4_cart_24 : decode cX4_cart 24 = .ok (.iload_n 3, 1) := dk_29 (dk_at dksX4_cart_1 0 rfl rfl)
theorem dX4_cart_25 : decode cX4_cart 25 = .ok (.invokestatic 298, 3) := dk_184 1 42 (dk_at dksX4_cart_1 1 rfl rfl)
theorem dX4_cart_28 : decode cX4_cart 28 = .ok (.ifCond .eq 19, 3) := dk_153 0 19 (dk_at dksX4_cart_1 4 rfl rfl)
theorem dX4_cart_31 : decode cX4_cart 31 = .ok (.iload 4, 2) := dk_21 4 (dk_at dksX4_cart_1 7 rfl rfl)
theorem dX4_cart_33 : decode cX4_cart 33 = .ok (.i2l, 1) := dk_133 (dk_at dksX4_cart_1 9 rfl rfl)
theorem dX4_cart_34 : decode cX4_cart 34 = .ok (.ldc2_w 322, 3) := dk_20 1 66 (dk_at dksX4_cart_1 10 rfl rfl)
theorem dX4_cart_37 : decode cX4_cart 37 = .ok (.iload_n 2, 1) := dk_28 (dk_at dksX4_cart_1 13 rfl rfl)
theorem dX4_cart_38 : decode cX4_cart 38 = .ok (.iconst 1, 1) := dk_4 (dk_at dksX4_cart_1 14 rfl rfl)
theorem dX4_cart_39 : decode cX4_cart 39 = .ok (.isub, 1) := dk_100 (dk_at dksX4_cart_1 15 rfl rfl)
theorem dX4_cart_40 : decode cX4_cart 40 = .ok (.i2l, 1) := dk_133 (dk_at dksX4_cart_1 16 rfl rfl)
theorem dX4_cart_41 : decode cX4_cart 41 = .ok (.invokestatic 88, 3) := dk_184 0 88 (dk_at dksX4_cart_1 17 rfl rfl)
theorem dX4_cart_44 : decode cX4_cart 44 = .ok (.ifCond .ne 15, 3) := dk_154 0 15 (dk_at dksX4_cart_1 20 rfl rfl)
theorem dX4_cart_47 : decode cX4_cart 47 = .ok (.ldc2_w 254, 3) := dk_20 0 254 (dk_at dksX4_cart_2 0 rfl rfl)
theorem dX4_cart_50 : decode cX4_cart 50 = .ok (.aload_n 0, 1) := dk_42 (dk_at dksX4_cart_2 3 rfl rfl)
theorem dX4_cart_51 : decode cX4_cart 51 = .ok (.bipush (-2), 2) := dk_16 254 (dk_at dksX4_cart_2 4 rfl rfl)
theorem dX4_cart_53 : decode cX4_cart 53 = .ok (.invokevirtual 110, 3) := dk_182 0 110 (dk_at dksX4_cart_2 6 rfl rfl)
theorem dX4_cart_56 : decode cX4_cart 56 = .ok (.i2l, 1) := dk_133 (dk_at dksX4_cart_2 9 rfl rfl)
theorem dX4_cart_57 : decode cX4_cart 57 = .ok (.ladd, 1) := dk_97 (dk_at dksX4_cart_2 10 rfl rfl)
theorem dX4_cart_58 : decode cX4_cart 58 = .ok (.lreturn, 1) := dk_173 (dk_at dksX4_cart_2 11 rfl rfl)
theorem dX4_cart_59 : decode cX4_cart 59 = .ok (.aload_n 0, 1) := dk_42 (dk_at dksX4_cart_2 12 rfl rfl)
theorem dX4_cart_60 : decode cX4_cart 60 = .ok (.iload_n 1, 1) := dk_27 (dk_at dksX4_cart_2 13 rfl rfl)
theorem dX4_cart_61 : decode cX4_cart 61 = .ok (.invokevirtual 150, 3) := dk_182 0 150 (dk_at dksX4_cart_2 14 rfl rfl)
theorem dX4_cart_64 : decode cX4_cart 64 = .ok (.istore 5, 2) := dk_54 5 (dk_at dksX4_cart_2 17 rfl rfl)
theorem dX4_cart_66 : decode cX4_cart 66 = .ok (.iload 5, 2) := dk_21 5 (dk_at dksX4_cart_2 19 rfl rfl)
theorem dX4_cart_68 : decode cX4_cart 68 = .ok (.ifCond .eq 11, 3) := dk_153 0 11 (dk_at dksX4_cart_2 21 rfl rfl)
theorem dX4_cart_71 : decode cX4_cart 71 = .ok (.ldc2_w 254, 3) := dk_20 0 254 (dk_at dksX4_cart_3 0 rfl rfl)
theorem dX4_cart_74 : decode cX4_cart 74 = .ok (.iload 5, 2) := dk_21 5 (dk_at dksX4_cart_3 3 rfl rfl)
theorem dX4_cart_76 : decode cX4_cart 76 = .ok (.i2l, 1) := dk_133 (dk_at dksX4_cart_3 5 rfl rfl)
theorem dX4_cart_77 : decode cX4_cart 77 = .ok (.ladd, 1) := dk_97 (dk_at dksX4_cart_3 6 rfl rfl)
theorem dX4_cart_78 : decode cX4_cart 78 = .ok (.lreturn, 1) := dk_173 (dk_at dksX4_cart_3 7 rfl rfl)
theorem dX4_cart_79 : decode cX4_cart 79 = .ok (.aload_n 0, 1) := dk_42 (dk_at dksX4_cart_3 8 rfl rfl)
theorem dX4_cart_80 : decode cX4_cart 80 = .ok (.iload_n 1, 1) := dk_27 (dk_at dksX4_cart_3 9 rfl rfl)
theorem dX4_cart_81 : decode cX4_cart 81 = .ok (.iload_n 2, 1) := dk_28 (dk_at dksX4_cart_3 10 rfl rfl)
theorem dX4_cart_82 : decode cX4_cart 82 = .ok (.invokevirtual 324, 3) := dk_182 1 68 (dk_at dksX4_cart_3 11 rfl rfl)
theorem dX4_cart_85 : decode cX4_cart 85 = .ok (.ifCond .ne 15, 3) := dk_154 0 15 (dk_at dksX4_cart_3 14 rfl rfl)
theorem dX4_cart_88 : decode cX4_cart 88 = .ok (.ldc2_w 254, 3) := dk_20 0 254 (dk_at dksX4_cart_3 17 rfl rfl)
theorem dX4_cart_91 : decode cX4_cart 91 = .ok (.aload_n 0, 1) := dk_42 (dk_at dksX4_cart_3 20 rfl rfl)
theorem dX4_cart_92 : decode cX4_cart 92 = .ok (.bipush (-2), 2) := dk_16 254 (dk_at dksX4_cart_3 21 rfl rfl)
theorem dX4_cart_94 : decode cX4_cart 94 = .ok (.invokevirtual 110, 3) := dk_182 0 110 (dk_at dksX4_cart_4 0 rfl rfl)
theorem dX4_cart_97 : decode cX4_cart 97 = .ok (.i2l, 1) := dk_133 (dk_at dksX4_cart_4 3 rfl rfl)
theorem dX4_cart_98 : decode cX4_cart 98 = .ok (.ladd, 1) := dk_97 (dk_at dksX4_cart_4 4 rfl rfl)
theorem dX4_cart_99 : decode cX4_cart 99 = .ok (.lreturn, 1) := dk_173 (dk_at dksX4_cart_4 5 rfl rfl)
theorem dX4_cart_100 : decode cX4_cart 100 = .ok (.aload_n 0, 1) := dk_42 (dk_at dksX4_cart_4 6 rfl rfl)
theorem dX4_cart_101 : decode cX4_cart 101 = .ok (.iload_n 3, 1) := dk_29 (dk_at dksX4_cart_4 7 rfl rfl)
theorem dX4_cart_102 : decode cX4_cart 102 = .ok (.iconst 0, 1) := dk_3 (dk_at dksX4_cart_4 8 rfl rfl)
theorem dX4_cart_103 : decode cX4_cart 103 = .ok (.iconst 0, 1) := dk_3 (dk_at dksX4_cart_4 9 rfl rfl)
theorem dX4_cart_104 : decode cX4_cart 104 = .ok (.iconst (-1), 1) := dk_2 (dk_at dksX4_cart_4 10 rfl rfl)
theorem dX4_cart_105 : decode cX4_cart 105 = .ok (.invokevirtual 265, 3) := dk_182 1 9 (dk_at dksX4_cart_4 11 rfl rfl)
theorem dX4_cart_108 : decode cX4_cart 108 = .ok (.aload_n 0, 1) := dk_42 (dk_at dksX4_cart_4 14 rfl rfl)
theorem dX4_cart_109 : decode cX4_cart 109 = .ok (.iconst 0, 1) := dk_3 (dk_at dksX4_cart_4 15 rfl rfl)
theorem dX4_cart_110 : decode cX4_cart 110 = .ok (.putfield 307, 3) := dk_181 1 51 (dk_at dksX4_cart_4 16 rfl rfl)
theorem dX4_cart_113 : decode cX4_cart 113 = .ok (.aload_n 0, 1) := dk_42 (dk_at dksX4_cart_4 19 rfl rfl)
theorem dX4_cart_114 : decode cX4_cart 114 = .ok (.iconst 0, 1) := dk_3 (dk_at dksX4_cart_4 20 rfl rfl)
theorem dX4_cart_115 : decode cX4_cart 115 = .ok (.iload_n 2, 1) := dk_28 (dk_at dksX4_cart_4 21 rfl rfl)
theorem dX4_cart_116 : decode cX4_cart 116 = .ok (.aload_n 0, 1) := dk_42 (dk_at dksX4_cart_4 22 rfl rfl)
theorem dX4_cart_117 : decode cX4_cart 117 = .ok (.invokevirtual 129, 3) := dk_182 0 129 (dk_at dksX4_cart_5 0 rfl rfl)
theorem dX4_cart_120 : decode cX4_cart 120 = .ok (.lconst 0, 1) := dk_9 (dk_at dksX4_cart_5 3 rfl rfl)
theorem dX4_cart_121 : decode cX4_cart 121 = .ok (.iload_n 3, 1) := dk_29 (dk_at dksX4_cart_5 4 rfl rfl)
theorem dX4_cart_122 : decode cX4_cart 122 = .ok (.invokevirtual 318, 3) := dk_182 1 62 (dk_at dksX4_cart_5 5 rfl rfl)
theorem dX4_cart_125 : decode cX4_cart 125 = .ok (.iload 4, 2) := dk_21 4 (dk_at dksX4_cart_5 8 rfl rfl)
theorem dX4_cart_127 : decode cX4_cart 127 = .ok (.iconst (-1), 1) := dk_2 (dk_at dksX4_cart_5 10 rfl rfl)
theorem dX4_cart_128 : decode cX4_cart 128 = .ok (.if_icmp .ne 10, 3) := dk_160 0 10 (dk_at dksX4_cart_5 11 rfl rfl)
theorem dX4_cart_131 : decode cX4_cart 131 = .ok (.aload_n 0, 1) := dk_42 (dk_at dksX4_cart_5 14 rfl rfl)
theorem dX4_cart_132 : decode cX4_cart 132 = .ok (.getfield 311, 3) := dk_180 1 55 (dk_at dksX4_cart_5 15 rfl rfl)
theorem dX4_cart_135 : decode cX4_cart 135 = .ok (.goto 11, 3) := dk_167 0 11 (dk_at dksX4_cart_5 18 rfl rfl)
theorem dX4_cart_138 : decode cX4_cart 138 = .ok (.aload_n 0, 1) := dk_42 (dk_at dksX4_cart_5 21 rfl rfl)
theorem dX4_cart_139 : decode cX4_cart 139 = .ok (.getfield 82, 3) := dk_180 0 82 (dk_at dksX4_cart_6 0 rfl rfl)
theorem dX4_cart_142 : decode cX4_cart 142 = .ok (.iload 4, 2) := dk_21 4 (dk_at dksX4_cart_6 3 rfl rfl)
theorem dX4_cart_144 : decode cX4_cart 144 = .ok (.iaload, 1) := dk_46 (dk_at dksX4_cart_6 5 rfl rfl)
theorem dX4_cart_145 : decode cX4_cart 145 = .ok (.i2l, 1) := dk_133 (dk_at dksX4_cart_6 6 rfl rfl)
theorem dX4_cart_146 : decode cX4_cart 146 = .ok (.lreturn, 1) := dk_173 (dk_at dksX4_cart_6 7 rfl rfl)
abbrev cX4_areSorts : ByteArray := prog_19_method_65_code
def yX4_areSorts : MethodName := ⟨RX4, "areSorts", "(II)Z"⟩
def dkwX4_areSorts_2 : List UInt8 := [47, 136, 79, 132, 3, 1, 167, 255, 216, 4, 172]
abbrev dktX4_areSorts_2 : List UInt8 := dkwX4_areSorts_2 ++ []
def dkwX4_areSorts_1 : List UInt8 := [27, 50, 29, 47, 182, 0, 153, 154, 0, 5, 3, 172, 42, 180, 0, 76, 29, 42, 180, 0, 21, 27, 50, 29]
abbrev dktX4_areSorts_1 : List UInt8 := dkwX4_areSorts_1 ++ dktX4_areSorts_2
def dkwX4_areSorts_0 : List UInt8 := [42, 180, 0, 16, 27, 46, 28, 162, 0, 5, 3, 172, 3, 62, 29, 28, 162, 0, 41, 42, 42, 180, 0, 21]
abbrev dktX4_areSorts_0 : List UInt8 := dkwX4_areSorts_0 ++ dktX4_areSorts_1
theorem dksX4_areSorts_0 : cX4_areSorts.data.toList.drop 0 = dktX4_areSorts_0 := by decide +kernel
theorem dksX4_areSorts_1 : cX4_areSorts.data.toList.drop 24 = dktX4_areSorts_1 := dk_seg dksX4_areSorts_0 24 rfl rfl
theorem dksX4_areSorts_2 : cX4_areSorts.data.toList.drop 48 = dktX4_areSorts_2 := dk_seg dksX4_areSorts_1 24 rfl rfl
theorem dX4_areSorts_0 : decode cX4_areSorts 0 = .ok (.aload_n 0, 1) := dk_42 (dk_at dksX4_areSorts_0 0 rfl rfl)
theorem dX4_areSorts_1 : decode cX4_areSorts 1 = .ok (.getfield 16, 3) := dk_180 0 16 (dk_at dksX4_areSorts_0 1 rfl rfl)
theorem dX4_areSorts_4 : decode cX4_areSorts 4 = .ok (.iload_n 1, 1) := dk_27 (dk_at dksX4_areSorts_0 4 rfl rfl)
theorem dX4_areSorts_5 : decode cX4_areSorts 5 = .ok (.iaload, 1) := dk_46 (dk_at dksX4_areSorts_0 5 rfl rfl)
theorem dX4_areSorts_6 : decode cX4_areSorts 6 = .ok (.iload_n 2, 1) := dk_28 (dk_at dksX4_areSorts_0 6 rfl rfl)
theorem dX4_areSorts_7 : decode cX4_areSorts 7 = .ok (.if_icmp .ge 5, 3) := dk_162 0 5 (dk_at dksX4_areSorts_0 7 rfl rfl)
theorem dX4_areSorts_10 : decode cX4_areSorts 10 = .ok (.iconst 0, 1) := dk_3 (dk_at dksX4_areSorts_0 10 rfl rfl)
theorem dX4_areSorts_11 : decode cX4_areSorts 11 = .ok (.ireturn, 1) := dk_172 (dk_at dksX4_areSorts_0 11 rfl rfl)
theorem dX4_areSorts_12 : decode cX4_areSorts 12 = .ok (.iconst 0, 1) := dk_3 (dk_at dksX4_areSorts_0 12 rfl rfl)
theorem dX4_areSorts_13 : decode cX4_areSorts 13 = .ok (.istore_n 3, 1) := dk_62 (dk_at dksX4_areSorts_0 13 rfl rfl)
theorem dX4_areSorts_14 : decode cX4_areSorts 14 = .ok (.iload_n 3, 1) := dk_29 (dk_at dksX4_areSorts_0 14 rfl rfl)
theorem dX4_areSorts_15 : decode cX4_areSorts 15 = .ok (.iload_n 2, 1) := dk_28 (dk_at dksX4_areSorts_0 15 rfl rfl)
theorem dX4_areSorts_16 : decode cX4_areSorts 16 = .ok (.if_icmp .ge 41, 3) := dk_162 0 41 (dk_at dksX4_areSorts_0 16 rfl rfl)
theorem dX4_areSorts_19 : decode cX4_areSorts 19 = .ok (.aload_n 0, 1) := dk_42 (dk_at dksX4_areSorts_0 19 rfl rfl)
theorem dX4_areSorts_20 : decode cX4_areSorts 20 = .ok (.aload_n 0, 1) := dk_42 (dk_at dksX4_areSorts_0 20 rfl rfl)
theorem dX4_areSorts_21 : decode cX4_areSorts 21 = .ok (.getfield 21, 3) := dk_180 0 21 (dk_at dksX4_areSorts_0 21 rfl rfl)
theorem dX4_areSorts_24 : decode cX4_areSorts 24 = .ok (.iload_n 1, 1) := dk_27 (dk_at dksX4_areSorts_1 0 rfl rfl)
theorem dX4_areSorts_25 : decode cX4_areSorts 25 = .ok (.aaload, 1) := dk_50 (dk_at dksX4_areSorts_1 1 rfl rfl)
theorem dX4_areSorts_26 : decode cX4_areSorts 26 = .ok (.iload_n 3, 1) := dk_29 (dk_at dksX4_areSorts_1 2 rfl rfl)
theorem dX4_areSorts_27 : decode cX4_areSorts 27 = .ok (.laload, 1) := dk_47 (dk_at dksX4_areSorts_1 3 rfl rfl)
theorem dX4_areSorts_28 : decode cX4_areSorts 28 = .ok (.invokevirtual 153, 3) := dk_182 0 153 (dk_at dksX4_areSorts_1 4 rfl rfl)
theorem dX4_areSorts_31 : decode cX4_areSorts 31 = .ok (.ifCond .ne 5, 3) := dk_154 0 5 (dk_at dksX4_areSorts_1 7 rfl rfl)
theorem dX4_areSorts_34 : decode cX4_areSorts 34 = .ok (.iconst 0, 1) := dk_3 (dk_at dksX4_areSorts_1 10 rfl rfl)
theorem dX4_areSorts_35 : decode cX4_areSorts 35 = .ok (.ireturn, 1) := dk_172 (dk_at dksX4_areSorts_1 11 rfl rfl)
theorem dX4_areSorts_36 : decode cX4_areSorts 36 = .ok (.aload_n 0, 1) := dk_42 (dk_at dksX4_areSorts_1 12 rfl rfl)
theorem dX4_areSorts_37 : decode cX4_areSorts 37 = .ok (.getfield 76, 3) := dk_180 0 76 (dk_at dksX4_areSorts_1 13 rfl rfl)
theorem dX4_areSorts_40 : decode cX4_areSorts 40 = .ok (.iload_n 3, 1) := dk_29 (dk_at dksX4_areSorts_1 16 rfl rfl)
theorem dX4_areSorts_41 : decode cX4_areSorts 41 = .ok (.aload_n 0, 1) := dk_42 (dk_at dksX4_areSorts_1 17 rfl rfl)
theorem dX4_areSorts_42 : decode cX4_areSorts 42 = .ok (.getfield 21, 3) := dk_180 0 21 (dk_at dksX4_areSorts_1 18 rfl rfl)
theorem dX4_areSorts_45 : decode cX4_areSorts 45 = .ok (.iload_n 1, 1) := dk_27 (dk_at dksX4_areSorts_1 21 rfl rfl)
theorem dX4_areSorts_46 : decode cX4_areSorts 46 = .ok (.aaload, 1) := dk_50 (dk_at dksX4_areSorts_1 22 rfl rfl)
theorem dX4_areSorts_47 : decode cX4_areSorts 47 = .ok (.iload_n 3, 1) := dk_29 (dk_at dksX4_areSorts_1 23 rfl rfl)
theorem dX4_areSorts_48 : decode cX4_areSorts 48 = .ok (.laload, 1) := dk_47 (dk_at dksX4_areSorts_2 0 rfl rfl)
theorem dX4_areSorts_49 : decode cX4_areSorts 49 = .ok (.l2i, 1) := dk_136 (dk_at dksX4_areSorts_2 1 rfl rfl)
theorem dX4_areSorts_50 : decode cX4_areSorts 50 = .ok (.iastore, 1) := dk_79 (dk_at dksX4_areSorts_2 2 rfl rfl)
theorem dX4_areSorts_51 : decode cX4_areSorts 51 = .ok (.iinc 3 1, 3) := dk_132 3 1 (dk_at dksX4_areSorts_2 3 rfl rfl)
theorem dX4_areSorts_54 : decode cX4_areSorts 54 = .ok (.goto (-40), 3) := dk_167 255 216 (dk_at dksX4_areSorts_2 6 rfl rfl)
theorem dX4_areSorts_57 : decode cX4_areSorts 57 = .ok (.iconst 1, 1) := dk_4 (dk_at dksX4_areSorts_2 9 rfl rfl)
theorem dX4_areSorts_58 : decode cX4_areSorts 58 = .ok (.ireturn, 1) := dk_172 (dk_at dksX4_areSorts_2 10 rfl rfl)
abbrev cX4_place : ByteArray := prog_19_method_64_code
def yX4_place : MethodName := ⟨RX4, "place", "(IIIJI)V"⟩
def dkwX4_place_6 : List UInt8 := [180, 0, 51, 21, 7, 50, 5, 46, 133, 105, 97, 21, 6, 182, 1, 62, 132, 8, 1, 167, 255, 193, 177]
abbrev dktX4_place_6 : List UInt8 := dkwX4_place_6 ++ []
def dkwX4_place_5 : List UInt8 := [27, 21, 8, 79, 42, 27, 4, 96, 28, 29, 21, 8, 184, 1, 6, 100, 22, 4, 20, 1, 4, 42]
abbrev dktX4_place_5 : List UInt8 := dkwX4_place_5 ++ dktX4_place_6
def dkwX4_place_4 : List UInt8 := [54, 8, 21, 8, 6, 162, 0, 63, 42, 21, 7, 29, 21, 8, 182, 1, 0, 153, 0, 45, 42, 180, 0, 79]
abbrev dktX4_place_4 : List UInt8 := dkwX4_place_4 ++ dktX4_place_5
def dkwX4_place_3 : List UInt8 := [27, 2, 79, 42, 27, 4, 96, 28, 29, 22, 4, 42, 21, 7, 182, 0, 250, 97, 21, 6, 182, 1, 62, 3]
abbrev dktX4_place_3 : List UInt8 := dkwX4_place_3 ++ dktX4_place_4
def dkwX4_place_2 : List UInt8 := [42, 180, 0, 79, 42, 180, 0, 82, 184, 1, 58, 177, 42, 180, 0, 76, 27, 46, 54, 7, 42, 180, 0, 79]
abbrev dktX4_place_2 : List UInt8 := dkwX4_place_2 ++ dktX4_place_3
def dkwX4_place_1 : List UInt8 := [153, 0, 13, 22, 7, 42, 180, 1, 55, 148, 158, 0, 25, 42, 4, 181, 1, 51, 42, 22, 7, 181, 1, 55]
abbrev dktX4_place_1 : List UInt8 := dkwX4_place_1 ++ dktX4_place_2
def dkwX4_place_0 : List UInt8 := [27, 28, 160, 0, 57, 22, 4, 42, 180, 0, 70, 21, 6, 50, 29, 47, 97, 55, 7, 42, 180, 1, 51]
abbrev dktX4_place_0 : List UInt8 := dkwX4_place_0 ++ dktX4_place_1
theorem dksX4_place_0 : cX4_place.data.toList.drop 0 = dktX4_place_0 := by decide +kernel
theorem dksX4_place_1 : cX4_place.data.toList.drop 23 = dktX4_place_1 := dk_seg dksX4_place_0 23 rfl rfl
theorem dksX4_place_2 : cX4_place.data.toList.drop 47 = dktX4_place_2 := dk_seg dksX4_place_1 24 rfl rfl
theorem dksX4_place_3 : cX4_place.data.toList.drop 71 = dktX4_place_3 := dk_seg dksX4_place_2 24 rfl rfl
theorem dksX4_place_4 : cX4_place.data.toList.drop 95 = dktX4_place_4 := dk_seg dksX4_place_3 24 rfl rfl
theorem dksX4_place_5 : cX4_place.data.toList.drop 119 = dktX4_place_5 := dk_seg dksX4_place_4 24 rfl rfl
theorem dksX4_place_6 : cX4_place.data.toList.drop 141 = dktX4_place_6 := dk_seg dksX4_place_5 22 rfl rfl
theorem dX4_place_0 : decode cX4_place 0 = .ok (.iload_n 1, 1) := dk_27 (dk_at dksX4_place_0 0 rfl rfl)
theorem dX4_place_1 : decode cX4_place 1 = .ok (.iload_n 2, 1) := dk_28 (dk_at dksX4_place_0 1 rfl rfl)
theorem dX4_place_2 : decode cX4_place 2 = .ok (.if_icmp .ne 57, 3) := dk_160 0 57 (dk_at dksX4_place_0 2 rfl rfl)
theorem dX4_place_5 : decode cX4_place 5 = .ok (.lload 4, 2) := dk_22 4 (dk_at dksX4_place_0 5 rfl rfl)
theorem dX4_place_7 : decode cX4_place 7 = .ok (.aload_n 0, 1) := dk_42 (dk_at dksX4_place_0 7 rfl rfl)
theorem dX4_place_8 : decode cX4_place 8 = .ok (.getfield 70, 3) := dk_180 0 70 (dk_at dksX4_place_0 8 rfl rfl)
theorem dX4_place_11 : decode cX4_place 11 = .ok (.iload 6, 2) := dk_21 6 (dk_at dksX4_place_0 11 rfl rfl)
theorem dX4_place_13 : decode cX4_place 13 = .ok (.aaload, 1) := dk_50 (dk_at dksX4_place_0 13 rfl rfl)
theorem dX4_place_14 : decode cX4_place 14 = .ok (.iload_n 3, 1) := dk_29 (dk_at dksX4_place_0 14 rfl rfl)
theorem dX4_place_15 : decode cX4_place 15 = .ok (.laload, 1) := dk_47 (dk_at dksX4_place_0 15 rfl rfl)
theorem dX4_place_16 : decode cX4_place 16 = .ok (.ladd, 1) := dk_97 (dk_at dksX4_place_0 16 rfl rfl)
theorem dX4_place_17 : decode cX4_place 17 = .ok (.lstore 7, 2) := dk_55 7 (dk_at dksX4_place_0 17 rfl rfl)
theorem dX4_place_19 : decode cX4_place 19 = .ok (.aload_n 0, 1) := dk_42 (dk_at dksX4_place_0 19 rfl rfl)
theorem dX4_place_20 : decode cX4_place 20 = .ok (.getfield 307, 3) := dk_180 1 51 (dk_at dksX4_place_0 20 rfl rfl)
theorem dX4_place_23 : decode cX4_place 23 = .ok (.ifCond .eq 13, 3) := dk_153 0 13 (dk_at dksX4_place_1 0 rfl rfl)
theorem dX4_place_26 : decode cX4_place 26 = .ok (.lload 7, 2) := dk_22 7 (dk_at dksX4_place_1 3 rfl rfl)
theorem dX4_place_28 : decode cX4_place 28 = .ok (.aload_n 0, 1) := dk_42 (dk_at dksX4_place_1 5 rfl rfl)
theorem dX4_place_29 : decode cX4_place 29 = .ok (.getfield 311, 3) := dk_180 1 55 (dk_at dksX4_place_1 6 rfl rfl)
theorem dX4_place_32 : decode cX4_place 32 = .ok (.lcmp, 1) := dk_148 (dk_at dksX4_place_1 9 rfl rfl)
theorem dX4_place_33 : decode cX4_place 33 = .ok (.ifCond .le 25, 3) := dk_158 0 25 (dk_at dksX4_place_1 10 rfl rfl)
theorem dX4_place_36 : decode cX4_place 36 = .ok (.aload_n 0, 1) := dk_42 (dk_at dksX4_place_1 13 rfl rfl)
theorem dX4_place_37 : decode cX4_place 37 = .ok (.iconst 1, 1) := dk_4 (dk_at dksX4_place_1 14 rfl rfl)
theorem dX4_place_38 : decode cX4_place 38 = .ok (.putfield 307, 3) := dk_181 1 51 (dk_at dksX4_place_1 15 rfl rfl)
theorem dX4_place_41 : decode cX4_place 41 = .ok (.aload_n 0, 1) := dk_42 (dk_at dksX4_place_1 18 rfl rfl)
theorem dX4_place_42 : decode cX4_place 42 = .ok (.lload 7, 2) := dk_22 7 (dk_at dksX4_place_1 19 rfl rfl)
theorem dX4_place_44 : decode cX4_place 44 = .ok (.putfield 311, 3) := dk_181 1 55 (dk_at dksX4_place_1 21 rfl rfl)
theorem dX4_place_47 : decode cX4_place 47 = .ok (.aload_n 0, 1) := dk_42 (dk_at dksX4_place_2 0 rfl rfl)
theorem dX4_place_48 : decode cX4_place 48 = .ok (.getfield 79, 3) := dk_180 0 79 (dk_at dksX4_place_2 1 rfl rfl)
theorem dX4_place_51 : decode cX4_place 51 = .ok (.aload_n 0, 1) := dk_42 (dk_at dksX4_place_2 4 rfl rfl)
theorem dX4_place_52 : decode cX4_place 52 = .ok (.getfield 82, 3) := dk_180 0 82 (dk_at dksX4_place_2 5 rfl rfl)
theorem dX4_place_55 : decode cX4_place 55 = .ok (.invokestatic 314, 3) := dk_184 1 58 (dk_at dksX4_place_2 8 rfl rfl)
theorem dX4_place_58 : decode cX4_place 58 = .ok (.return_, 1) := dk_177 (dk_at dksX4_place_2 11 rfl rfl)
theorem dX4_place_59 : decode cX4_place 59 = .ok (.aload_n 0, 1) := dk_42 (dk_at dksX4_place_2 12 rfl rfl)
theorem dX4_place_60 : decode cX4_place 60 = .ok (.getfield 76, 3) := dk_180 0 76 (dk_at dksX4_place_2 13 rfl rfl)
theorem dX4_place_63 : decode cX4_place 63 = .ok (.iload_n 1, 1) := dk_27 (dk_at dksX4_place_2 16 rfl rfl)
theorem dX4_place_64 : decode cX4_place 64 = .ok (.iaload, 1) := dk_46 (dk_at dksX4_place_2 17 rfl rfl)
theorem dX4_place_65 : decode cX4_place 65 = .ok (.istore 7, 2) := dk_54 7 (dk_at dksX4_place_2 18 rfl rfl)
theorem dX4_place_67 : decode cX4_place 67 = .ok (.aload_n 0, 1) := dk_42 (dk_at dksX4_place_2 20 rfl rfl)
theorem dX4_place_68 : decode cX4_place 68 = .ok (.getfield 79, 3) := dk_180 0 79 (dk_at dksX4_place_2 21 rfl rfl)
theorem dX4_place_71 : decode cX4_place 71 = .ok (.iload_n 1, 1) := dk_27 (dk_at dksX4_place_3 0 rfl rfl)
theorem dX4_place_72 : decode cX4_place 72 = .ok (.iconst (-1), 1) := dk_2 (dk_at dksX4_place_3 1 rfl rfl)
theorem dX4_place_73 : decode cX4_place 73 = .ok (.iastore, 1) := dk_79 (dk_at dksX4_place_3 2 rfl rfl)
theorem dX4_place_74 : decode cX4_place 74 = .ok (.aload_n 0, 1) := dk_42 (dk_at dksX4_place_3 3 rfl rfl)
theorem dX4_place_75 : decode cX4_place 75 = .ok (.iload_n 1, 1) := dk_27 (dk_at dksX4_place_3 4 rfl rfl)
theorem dX4_place_76 : decode cX4_place 76 = .ok (.iconst 1, 1) := dk_4 (dk_at dksX4_place_3 5 rfl rfl)
theorem dX4_place_77 : decode cX4_place 77 = .ok (.iadd, 1) := dk_96 (dk_at dksX4_place_3 6 rfl rfl)
theorem dX4_place_78 : decode cX4_place 78 = .ok (.iload_n 2, 1) := dk_28 (dk_at dksX4_place_3 7 rfl rfl)
theorem dX4_place_79 : decode cX4_place 79 = .ok (.iload_n 3, 1) := dk_29 (dk_at dksX4_place_3 8 rfl rfl)
theorem dX4_place_80 : decode cX4_place 80 = .ok (.lload 4, 2) := dk_22 4 (dk_at dksX4_place_3 9 rfl rfl)
theorem dX4_place_82 : decode cX4_place 82 = .ok (.aload_n 0, 1) := dk_42 (dk_at dksX4_place_3 11 rfl rfl)
theorem dX4_place_83 : decode cX4_place 83 = .ok (.iload 7, 2) := dk_21 7 (dk_at dksX4_place_3 12 rfl rfl)
theorem dX4_place_85 : decode cX4_place 85 = .ok (.invokevirtual 250, 3) := dk_182 0 250 (dk_at dksX4_place_3 14 rfl rfl)
theorem dX4_place_88 : decode cX4_place 88 = .ok (.ladd, 1) := dk_97 (dk_at dksX4_place_3 17 rfl rfl)
theorem dX4_place_89 : decode cX4_place 89 = .ok (.iload 6, 2) := dk_21 6 (dk_at dksX4_place_3 18 rfl rfl)
theorem dX4_place_91 : decode cX4_place 91 = .ok (.invokevirtual 318, 3) := dk_182 1 62 (dk_at dksX4_place_3 20 rfl rfl)
theorem dX4_place_94 : decode cX4_place 94 = .ok (.iconst 0, 1) := dk_3 (dk_at dksX4_place_3 23 rfl rfl)
theorem dX4_place_95 : decode cX4_place 95 = .ok (.istore 8, 2) := dk_54 8 (dk_at dksX4_place_4 0 rfl rfl)
theorem dX4_place_97 : decode cX4_place 97 = .ok (.iload 8, 2) := dk_21 8 (dk_at dksX4_place_4 2 rfl rfl)
theorem dX4_place_99 : decode cX4_place 99 = .ok (.iconst 3, 1) := dk_6 (dk_at dksX4_place_4 4 rfl rfl)
theorem dX4_place_100 : decode cX4_place 100 = .ok (.if_icmp .ge 63, 3) := dk_162 0 63 (dk_at dksX4_place_4 5 rfl rfl)
theorem dX4_place_103 : decode cX4_place 103 = .ok (.aload_n 0, 1) := dk_42 (dk_at dksX4_place_4 8 rfl rfl)
theorem dX4_place_104 : decode cX4_place 104 = .ok (.iload 7, 2) := dk_21 7 (dk_at dksX4_place_4 9 rfl rfl)
theorem dX4_place_106 : decode cX4_place 106 = .ok (.iload_n 3, 1) := dk_29 (dk_at dksX4_place_4 11 rfl rfl)
theorem dX4_place_107 : decode cX4_place 107 = .ok (.iload 8, 2) := dk_21 8 (dk_at dksX4_place_4 12 rfl rfl)
theorem dX4_place_109 : decode cX4_place 109 = .ok (.invokevirtual 256, 3) := dk_182 1 0 (dk_at dksX4_place_4 14 rfl rfl)
theorem dX4_place_112 : decode cX4_place 112 = .ok (.ifCond .eq 45, 3) := dk_153 0 45 (dk_at dksX4_place_4 17 rfl rfl)
theorem dX4_place_115 : decode cX4_place 115 = .ok (.aload_n 0, 1) := dk_42 (dk_at dksX4_place_4 20 rfl rfl)
theorem dX4_place_116 : decode cX4_place 116 = .ok (.getfield 79, 3) := dk_180 0 79 (dk_at dksX4_place_4 21 rfl rfl)
theorem dX4_place_119 : decode cX4_place 119 = .ok (.iload_n 1, 1) := dk_27 (dk_at dksX4_place_5 0 rfl rfl)
theorem dX4_place_120 : decode cX4_place 120 = .ok (.iload 8, 2) := dk_21 8 (dk_at dksX4_place_5 1 rfl rfl)
theorem dX4_place_122 : decode cX4_place 122 = .ok (.iastore, 1) := dk_79 (dk_at dksX4_place_5 3 rfl rfl)
theorem dX4_place_123 : decode cX4_place 123 = .ok (.aload_n 0, 1) := dk_42 (dk_at dksX4_place_5 4 rfl rfl)
theorem dX4_place_124 : decode cX4_place 124 = .ok (.iload_n 1, 1) := dk_27 (dk_at dksX4_place_5 5 rfl rfl)
theorem dX4_place_125 : decode cX4_place 125 = .ok (.iconst 1, 1) := dk_4 (dk_at dksX4_place_5 6 rfl rfl)
theorem dX4_place_126 : decode cX4_place 126 = .ok (.iadd, 1) := dk_96 (dk_at dksX4_place_5 7 rfl rfl)
theorem dX4_place_127 : decode cX4_place 127 = .ok (.iload_n 2, 1) := dk_28 (dk_at dksX4_place_5 8 rfl rfl)
theorem dX4_place_128 : decode cX4_place 128 = .ok (.iload_n 3, 1) := dk_29 (dk_at dksX4_place_5 9 rfl rfl)
theorem dX4_place_129 : decode cX4_place 129 = .ok (.iload 8, 2) := dk_21 8 (dk_at dksX4_place_5 10 rfl rfl)
theorem dX4_place_131 : decode cX4_place 131 = .ok (.invokestatic 262, 3) := dk_184 1 6 (dk_at dksX4_place_5 12 rfl rfl)
theorem dX4_place_134 : decode cX4_place 134 = .ok (.isub, 1) := dk_100 (dk_at dksX4_place_5 15 rfl rfl)
theorem dX4_place_135 : decode cX4_place 135 = .ok (.lload 4, 2) := dk_22 4 (dk_at dksX4_place_5 16 rfl rfl)
theorem dX4_place_137 : decode cX4_place 137 = .ok (.ldc2_w 260, 3) := dk_20 1 4 (dk_at dksX4_place_5 18 rfl rfl)
theorem dX4_place_140 : decode cX4_place 140 = .ok (.aload_n 0, 1) := dk_42 (dk_at dksX4_place_5 21 rfl rfl)
theorem dX4_place_141 : decode cX4_place 141 = .ok (.getfield 51, 3) := dk_180 0 51 (dk_at dksX4_place_6 0 rfl rfl)
theorem dX4_place_144 : decode cX4_place 144 = .ok (.iload 7, 2) := dk_21 7 (dk_at dksX4_place_6 3 rfl rfl)
theorem dX4_place_146 : decode cX4_place 146 = .ok (.aaload, 1) := dk_50 (dk_at dksX4_place_6 5 rfl rfl)
theorem dX4_place_147 : decode cX4_place 147 = .ok (.iconst 2, 1) := dk_5 (dk_at dksX4_place_6 6 rfl rfl)
theorem dX4_place_148 : decode cX4_place 148 = .ok (.iaload, 1) := dk_46 (dk_at dksX4_place_6 7 rfl rfl)
theorem dX4_place_149 : decode cX4_place 149 = .ok (.i2l, 1) := dk_133 (dk_at dksX4_place_6 8 rfl rfl)
theorem dX4_place_150 : decode cX4_place 150 = .ok (.lmul, 1) := dk_105 (dk_at dksX4_place_6 9 rfl rfl)
theorem dX4_place_151 : decode cX4_place 151 = .ok (.ladd, 1) := dk_97 (dk_at dksX4_place_6 10 rfl rfl)
theorem dX4_place_152 : decode cX4_place 152 = .ok (.iload 6, 2) := dk_21 6 (dk_at dksX4_place_6 11 rfl rfl)
theorem dX4_place_154 : decode cX4_place 154 = .ok (.invokevirtual 318, 3) := dk_182 1 62 (dk_at dksX4_place_6 13 rfl rfl)
theorem dX4_place_157 : decode cX4_place 157 = .ok (.iinc 8 1, 3) := dk_132 8 1 (dk_at dksX4_place_6 16 rfl rfl)
theorem dX4_place_160 : decode cX4_place 160 = .ok (.goto (-63), 3) := dk_167 255 193 (dk_at dksX4_place_6 19 rfl rfl)
theorem dX4_place_163 : decode cX4_place 163 = .ok (.return_, 1) := dk_177 (dk_at dksX4_place_6 22 rfl rfl)
abbrev cX4_judge : ByteArray := prog_19_method_69_code
def yX4_judge : MethodName := ⟨RX4, "judge", "(III)I"⟩
def dkwX4_judge_1 : List UInt8 := [180, 1, 71, 172]
abbrev dktX4_judge_1 : List UInt8 := dkwX4_judge_1 ++ []
def dkwX4_judge_0 : List UInt8 := [42, 27, 28, 29, 182, 1, 80, 54, 4, 21, 4, 153, 0, 6, 21, 4, 172, 42, 28, 29, 182, 1, 83, 42]
abbrev dktX4_judge_0 : List UInt8 := dkwX4_judge_0 ++ dktX4_judge_1
theorem dksX4_judge_0 : cX4_judge.data.toList.drop 0 = dktX4_judge_0 := by decide +kernel
theorem dksX4_judge_1 : cX4_judge.data.toList.drop 24 = dktX4_judge_1 := dk_seg dksX4_judge_0 24 rfl rfl
theorem dX4_judge_0 : decode cX4_judge 0 = .ok (.aload_n 0, 1) := dk_42 (dk_at dksX4_judge_0 0 rfl rfl)
theorem dX4_judge_1 : decode cX4_judge 1 = .ok (.iload_n 1, 1) := dk_27 (dk_at dksX4_judge_0 1 rfl rfl)
theorem dX4_judge_2 : decode cX4_judge 2 = .ok (.iload_n 2, 1) := dk_28 (dk_at dksX4_judge_0 2 rfl rfl)
theorem dX4_judge_3 : decode cX4_judge 3 = .ok (.iload_n 3, 1) := dk_29 (dk_at dksX4_judge_0 3 rfl rfl)
theorem dX4_judge_4 : decode cX4_judge 4 = .ok (.invokevirtual 336, 3) := dk_182 1 80 (dk_at dksX4_judge_0 4 rfl rfl)
theorem dX4_judge_7 : decode cX4_judge 7 = .ok (.istore 4, 2) := dk_54 4 (dk_at dksX4_judge_0 7 rfl rfl)
theorem dX4_judge_9 : decode cX4_judge 9 = .ok (.iload 4, 2) := dk_21 4 (dk_at dksX4_judge_0 9 rfl rfl)
theorem dX4_judge_11 : decode cX4_judge 11 = .ok (.ifCond .eq 6, 3) := dk_153 0 6 (dk_at dksX4_judge_0 11 rfl rfl)
theorem dX4_judge_14 : decode cX4_judge 14 = .ok (.iload 4, 2) := dk_21 4 (dk_at dksX4_judge_0 14 rfl rfl)
theorem dX4_judge_16 : decode cX4_judge 16 = .ok (.ireturn, 1) := dk_172 (dk_at dksX4_judge_0 16 rfl rfl)
theorem dX4_judge_17 : decode cX4_judge 17 = .ok (.aload_n 0, 1) := dk_42 (dk_at dksX4_judge_0 17 rfl rfl)
theorem dX4_judge_18 : decode cX4_judge 18 = .ok (.iload_n 2, 1) := dk_28 (dk_at dksX4_judge_0 18 rfl rfl)
theorem dX4_judge_19 : decode cX4_judge 19 = .ok (.iload_n 3, 1) := dk_29 (dk_at dksX4_judge_0 19 rfl rfl)
theorem dX4_judge_20 : decode cX4_judge 20 = .ok (.invokevirtual 339, 3) := dk_182 1 83 (dk_at dksX4_judge_0 20 rfl rfl)
theorem dX4_judge_23 : decode cX4_judge 23 = .ok (.aload_n 0, 1) := dk_42 (dk_at dksX4_judge_0 23 rfl rfl)
theorem dX4_judge_24 : decode cX4_judge 24 = .ok (.getfield 327, 3) := dk_180 1 71 (dk_at dksX4_judge_1 0 rfl rfl)
theorem dX4_judge_27 : decode cX4_judge 27 = .ok (.ireturn, 1) := dk_172 (dk_at dksX4_judge_1 3 rfl rfl)
abbrev cX4_noPlacing : ByteArray := prog_19_method_68_code
def yX4_noPlacing : MethodName := ⟨RX4, "noPlacing", "(III)I"⟩
def dkwX4_noPlacing_5 : List UInt8 := [16, 254, 182, 0, 110, 172]
abbrev dktX4_noPlacing_5 : List UInt8 := dkwX4_noPlacing_5 ++ []
def dkwX4_noPlacing_4 : List UInt8 := [42, 27, 29, 182, 1, 68, 153, 0, 17, 42, 180, 0, 16, 28, 46, 29, 161, 0, 7, 3, 167, 0, 9, 42]
abbrev dktX4_noPlacing_4 : List UInt8 := dkwX4_noPlacing_4 ++ dktX4_noPlacing_5
def dkwX4_noPlacing_3 : List UInt8 := [180, 0, 7, 27, 46, 153, 0, 12, 42, 180, 0, 7, 28, 46, 154, 0, 10, 42, 16, 252, 182, 0, 110, 172]
abbrev dktX4_noPlacing_3 : List UInt8 := dkwX4_noPlacing_3 ++ dktX4_noPlacing_4
def dkwX4_noPlacing_2 : List UInt8 := [46, 5, 159, 0, 13, 42, 180, 0, 7, 28, 46, 5, 160, 0, 10, 42, 16, 253, 182, 0, 110, 172, 42]
abbrev dktX4_noPlacing_2 : List UInt8 := dkwX4_noPlacing_2 ++ dktX4_noPlacing_3
def dkwX4_noPlacing_1 : List UInt8 := [29, 133, 9, 20, 0, 118, 184, 0, 88, 154, 0, 10, 42, 16, 254, 182, 0, 110, 172, 42, 180, 0, 7, 27]
abbrev dktX4_noPlacing_1 : List UInt8 := dkwX4_noPlacing_1 ++ dktX4_noPlacing_2
def dkwX4_noPlacing_0 : List UInt8 := [27, 133, 9, 20, 0, 104, 184, 0, 88, 153, 0, 27, 28, 133, 9, 20, 0, 104, 184, 0, 88, 153, 0, 15]
abbrev dktX4_noPlacing_0 : List UInt8 := dkwX4_noPlacing_0 ++ dktX4_noPlacing_1
theorem dksX4_noPlacing_0 : cX4_noPlacing.data.toList.drop 0 = dktX4_noPlacing_0 := by decide +kernel
theorem dksX4_noPlacing_1 : cX4_noPlacing.data.toList.drop 24 = dktX4_noPlacing_1 := dk_seg dksX4_noPlacing_0 24 rfl rfl
theorem dksX4_noPlacing_2 : cX4_noPlacing.data.toList.drop 48 = dktX4_noPlacing_2 := dk_seg dksX4_noPlacing_1 24 rfl rfl
theorem dksX4_noPlacing_3 : cX4_noPlacing.data.toList.drop 71 = dktX4_noPlacing_3 := dk_seg dksX4_noPlacing_2 23 rfl rfl
theorem dksX4_noPlacing_4 : cX4_noPlacing.data.toList.drop 95 = dktX4_noPlacing_4 := dk_seg dksX4_noPlacing_3 24 rfl rfl
theorem dksX4_noPlacing_5 : cX4_noPlacing.data.toList.drop 119 = dktX4_noPlacing_5 := dk_seg dksX4_noPlacing_4 24 rfl rfl
theorem dX4_noPlacing_0 : decode cX4_noPlacing 0 = .ok (.iload_n 1, 1) := dk_27 (dk_at dksX4_noPlacing_0 0 rfl rfl)
theorem dX4_noPlacing_1 : decode cX4_noPlacing 1 = .ok (.i2l, 1) := dk_133 (dk_at dksX4_noPlacing_0 1 rfl rfl)
theorem dX4_noPlacing_2 : decode cX4_noPlacing 2 = .ok (.lconst 0, 1) := dk_9 (dk_at dksX4_noPlacing_0 2 rfl rfl)
theorem dX4_noPlacing_3 : decode cX4_noPlacing 3 = .ok (.ldc2_w 104, 3) := dk_20 0 104 (dk_at dksX4_noPlacing_0 3 rfl rfl)
theorem dX4_noPlacing_6 : decode cX4_noPlacing 6 = .ok (.invokestatic 88, 3) := dk_184 0 88 (dk_at dksX4_noPlacing_0 6 rfl rfl)
theorem dX4_noPlacing_9 : decode cX4_noPlacing 9 = .ok (.ifCond .eq 27, 3) := dk_153 0 27 (dk_at dksX4_noPlacing_0 9 rfl rfl)
theorem dX4_noPlacing_12 : decode cX4_noPlacing 12 = .ok (.iload_n 2, 1) := dk_28 (dk_at dksX4_noPlacing_0 12 rfl rfl)
theorem dX4_noPlacing_13 : decode cX4_noPlacing 13 = .ok (.i2l, 1) := dk_133 (dk_at dksX4_noPlacing_0 13 rfl rfl)
theorem dX4_noPlacing_14 : decode cX4_noPlacing 14 = .ok (.lconst 0, 1) := dk_9 (dk_at dksX4_noPlacing_0 14 rfl rfl)
theorem dX4_noPlacing_15 : decode cX4_noPlacing 15 = .ok (.ldc2_w 104, 3) := dk_20 0 104 (dk_at dksX4_noPlacing_0 15 rfl rfl)
theorem dX4_noPlacing_18 : decode cX4_noPlacing 18 = .ok (.invokestatic 88, 3) := dk_184 0 88 (dk_at dksX4_noPlacing_0 18 rfl rfl)
theorem dX4_noPlacing_21 : decode cX4_noPlacing 21 = .ok (.ifCond .eq 15, 3) := dk_153 0 15 (dk_at dksX4_noPlacing_0 21 rfl rfl)
theorem dX4_noPlacing_24 : decode cX4_noPlacing 24 = .ok (.iload_n 3, 1) := dk_29 (dk_at dksX4_noPlacing_1 0 rfl rfl)
theorem dX4_noPlacing_25 : decode cX4_noPlacing 25 = .ok (.i2l, 1) := dk_133 (dk_at dksX4_noPlacing_1 1 rfl rfl)
theorem dX4_noPlacing_26 : decode cX4_noPlacing 26 = .ok (.lconst 0, 1) := dk_9 (dk_at dksX4_noPlacing_1 2 rfl rfl)
theorem dX4_noPlacing_27 : decode cX4_noPlacing 27 = .ok (.ldc2_w 118, 3) := dk_20 0 118 (dk_at dksX4_noPlacing_1 3 rfl rfl)
theorem dX4_noPlacing_30 : decode cX4_noPlacing 30 = .ok (.invokestatic 88, 3) := dk_184 0 88 (dk_at dksX4_noPlacing_1 6 rfl rfl)
theorem dX4_noPlacing_33 : decode cX4_noPlacing 33 = .ok (.ifCond .ne 10, 3) := dk_154 0 10 (dk_at dksX4_noPlacing_1 9 rfl rfl)
theorem dX4_noPlacing_36 : decode cX4_noPlacing 36 = .ok (.aload_n 0, 1) := dk_42 (dk_at dksX4_noPlacing_1 12 rfl rfl)
theorem dX4_noPlacing_37 : decode cX4_noPlacing 37 = .ok (.bipush (-2), 2) := dk_16 254 (dk_at dksX4_noPlacing_1 13 rfl rfl)
theorem dX4_noPlacing_39 : decode cX4_noPlacing 39 = .ok (.invokevirtual 110, 3) := dk_182 0 110 (dk_at dksX4_noPlacing_1 15 rfl rfl)
theorem dX4_noPlacing_42 : decode cX4_noPlacing 42 = .ok (.ireturn, 1) := dk_172 (dk_at dksX4_noPlacing_1 18 rfl rfl)
theorem dX4_noPlacing_43 : decode cX4_noPlacing 43 = .ok (.aload_n 0, 1) := dk_42 (dk_at dksX4_noPlacing_1 19 rfl rfl)
theorem dX4_noPlacing_44 : decode cX4_noPlacing 44 = .ok (.getfield 7, 3) := dk_180 0 7 (dk_at dksX4_noPlacing_1 20 rfl rfl)
theorem dX4_noPlacing_47 : decode cX4_noPlacing 47 = .ok (.iload_n 1, 1) := dk_27 (dk_at dksX4_noPlacing_1 23 rfl rfl)
theorem dX4_noPlacing_48 : decode cX4_noPlacing 48 = .ok (.iaload, 1) := dk_46 (dk_at dksX4_noPlacing_2 0 rfl rfl)
theorem dX4_noPlacing_49 : decode cX4_noPlacing 49 = .ok (.iconst 2, 1) := dk_5 (dk_at dksX4_noPlacing_2 1 rfl rfl)
theorem dX4_noPlacing_50 : decode cX4_noPlacing 50 = .ok (.if_icmp .eq 13, 3) := dk_159 0 13 (dk_at dksX4_noPlacing_2 2 rfl rfl)
theorem dX4_noPlacing_53 : decode cX4_noPlacing 53 = .ok (.aload_n 0, 1) := dk_42 (dk_at dksX4_noPlacing_2 5 rfl rfl)
theorem dX4_noPlacing_54 : decode cX4_noPlacing 54 = .ok (.getfield 7, 3) := dk_180 0 7 (dk_at dksX4_noPlacing_2 6 rfl rfl)
theorem dX4_noPlacing_57 : decode cX4_noPlacing 57 = .ok (.iload_n 2, 1) := dk_28 (dk_at dksX4_noPlacing_2 9 rfl rfl)
theorem dX4_noPlacing_58 : decode cX4_noPlacing 58 = .ok (.iaload, 1) := dk_46 (dk_at dksX4_noPlacing_2 10 rfl rfl)
theorem dX4_noPlacing_59 : decode cX4_noPlacing 59 = .ok (.iconst 2, 1) := dk_5 (dk_at dksX4_noPlacing_2 11 rfl rfl)
theorem dX4_noPlacing_60 : decode cX4_noPlacing 60 = .ok (.if_icmp .ne 10, 3) := dk_160 0 10 (dk_at dksX4_noPlacing_2 12 rfl rfl)
theorem dX4_noPlacing_63 : decode cX4_noPlacing 63 = .ok (.aload_n 0, 1) := dk_42 (dk_at dksX4_noPlacing_2 15 rfl rfl)
theorem dX4_noPlacing_64 : decode cX4_noPlacing 64 = .ok (.bipush (-3), 2) := dk_16 253 (dk_at dksX4_noPlacing_2 16 rfl rfl)
theorem dX4_noPlacing_66 : decode cX4_noPlacing 66 = .ok (.invokevirtual 110, 3) := dk_182 0 110 (dk_at dksX4_noPlacing_2 18 rfl rfl)
theorem dX4_noPlacing_69 : decode cX4_noPlacing 69 = .ok (.ireturn, 1) := dk_172 (dk_at dksX4_noPlacing_2 21 rfl rfl)
theorem dX4_noPlacing_70 : decode cX4_noPlacing 70 = .ok (.aload_n 0, 1) := dk_42 (dk_at dksX4_noPlacing_2 22 rfl rfl)
theorem dX4_noPlacing_71 : decode cX4_noPlacing 71 = .ok (.getfield 7, 3) := dk_180 0 7 (dk_at dksX4_noPlacing_3 0 rfl rfl)
theorem dX4_noPlacing_74 : decode cX4_noPlacing 74 = .ok (.iload_n 1, 1) := dk_27 (dk_at dksX4_noPlacing_3 3 rfl rfl)
theorem dX4_noPlacing_75 : decode cX4_noPlacing 75 = .ok (.iaload, 1) := dk_46 (dk_at dksX4_noPlacing_3 4 rfl rfl)
theorem dX4_noPlacing_76 : decode cX4_noPlacing 76 = .ok (.ifCond .eq 12, 3) := dk_153 0 12 (dk_at dksX4_noPlacing_3 5 rfl rfl)
theorem dX4_noPlacing_79 : decode cX4_noPlacing 79 = .ok (.aload_n 0, 1) := dk_42 (dk_at dksX4_noPlacing_3 8 rfl rfl)
theorem dX4_noPlacing_80 : decode cX4_noPlacing 80 = .ok (.getfield 7, 3) := dk_180 0 7 (dk_at dksX4_noPlacing_3 9 rfl rfl)
theorem dX4_noPlacing_83 : decode cX4_noPlacing 83 = .ok (.iload_n 2, 1) := dk_28 (dk_at dksX4_noPlacing_3 12 rfl rfl)
theorem dX4_noPlacing_84 : decode cX4_noPlacing 84 = .ok (.iaload, 1) := dk_46 (dk_at dksX4_noPlacing_3 13 rfl rfl)
theorem dX4_noPlacing_85 : decode cX4_noPlacing 85 = .ok (.ifCond .ne 10, 3) := dk_154 0 10 (dk_at dksX4_noPlacing_3 14 rfl rfl)
theorem dX4_noPlacing_88 : decode cX4_noPlacing 88 = .ok (.aload_n 0, 1) := dk_42 (dk_at dksX4_noPlacing_3 17 rfl rfl)
theorem dX4_noPlacing_89 : decode cX4_noPlacing 89 = .ok (.bipush (-4), 2) := dk_16 252 (dk_at dksX4_noPlacing_3 18 rfl rfl)
theorem dX4_noPlacing_91 : decode cX4_noPlacing 91 = .ok (.invokevirtual 110, 3) := dk_182 0 110 (dk_at dksX4_noPlacing_3 20 rfl rfl)
theorem dX4_noPlacing_94 : decode cX4_noPlacing 94 = .ok (.ireturn, 1) := dk_172 (dk_at dksX4_noPlacing_3 23 rfl rfl)
theorem dX4_noPlacing_95 : decode cX4_noPlacing 95 = .ok (.aload_n 0, 1) := dk_42 (dk_at dksX4_noPlacing_4 0 rfl rfl)
theorem dX4_noPlacing_96 : decode cX4_noPlacing 96 = .ok (.iload_n 1, 1) := dk_27 (dk_at dksX4_noPlacing_4 1 rfl rfl)
theorem dX4_noPlacing_97 : decode cX4_noPlacing 97 = .ok (.iload_n 3, 1) := dk_29 (dk_at dksX4_noPlacing_4 2 rfl rfl)
theorem dX4_noPlacing_98 : decode cX4_noPlacing 98 = .ok (.invokevirtual 324, 3) := dk_182 1 68 (dk_at dksX4_noPlacing_4 3 rfl rfl)
theorem dX4_noPlacing_101 : decode cX4_noPlacing 101 = .ok (.ifCond .eq 17, 3) := dk_153 0 17 (dk_at dksX4_noPlacing_4 6 rfl rfl)
theorem dX4_noPlacing_104 : decode cX4_noPlacing 104 = .ok (.aload_n 0, 1) := dk_42 (dk_at dksX4_noPlacing_4 9 rfl rfl)
theorem dX4_noPlacing_105 : decode cX4_noPlacing 105 = .ok (.getfield 16, 3) := dk_180 0 16 (dk_at dksX4_noPlacing_4 10 rfl rfl)
theorem dX4_noPlacing_108 : decode cX4_noPlacing 108 = .ok (.iload_n 2, 1) := dk_28 (dk_at dksX4_noPlacing_4 13 rfl rfl)
theorem dX4_noPlacing_109 : decode cX4_noPlacing 109 = .ok (.iaload, 1) := dk_46 (dk_at dksX4_noPlacing_4 14 rfl rfl)
theorem dX4_noPlacing_110 : decode cX4_noPlacing 110 = .ok (.iload_n 3, 1) := dk_29 (dk_at dksX4_noPlacing_4 15 rfl rfl)
theorem dX4_noPlacing_111 : decode cX4_noPlacing 111 = .ok (.if_icmp .lt 7, 3) := dk_161 0 7 (dk_at dksX4_noPlacing_4 16 rfl rfl)
theorem dX4_noPlacing_114 : decode cX4_noPlacing 114 = .ok (.iconst 0, 1) := dk_3 (dk_at dksX4_noPlacing_4 19 rfl rfl)
theorem dX4_noPlacing_115 : decode cX4_noPlacing 115 = .ok (.goto 9, 3) := dk_167 0 9 (dk_at dksX4_noPlacing_4 20 rfl rfl)
theorem dX4_noPlacing_118 : decode cX4_noPlacing 118 = .ok (.aload_n 0, 1) := dk_42 (dk_at dksX4_noPlacing_4 23 rfl rfl)
theorem dX4_noPlacing_119 : decode cX4_noPlacing 119 = .ok (.bipush (-2), 2) := dk_16 254 (dk_at dksX4_noPlacing_5 0 rfl rfl)
theorem dX4_noPlacing_121 : decode cX4_noPlacing 121 = .ok (.invokevirtual 110, 3) := dk_182 0 110 (dk_at dksX4_noPlacing_5 2 rfl rfl)
theorem dX4_noPlacing_124 : decode cX4_noPlacing 124 = .ok (.ireturn, 1) := dk_172 (dk_at dksX4_noPlacing_5 5 rfl rfl)
abbrev cX4_goThrough : ByteArray := prog_19_method_67_code
def yX4_goThrough : MethodName := ⟨RX4, "goThrough", "(II)V"⟩
def dkwX4_goThrough_5 : List UInt8 := [167, 255, 160, 177]
abbrev dktX4_goThrough_5 : List UInt8 := dkwX4_goThrough_5 ++ []
def dkwX4_goThrough_4 : List UInt8 := [181, 1, 74, 42, 89, 180, 1, 77, 4, 96, 181, 1, 77, 167, 0, 8, 42, 29, 181, 1, 71, 132, 3, 1]
abbrev dktX4_goThrough_4 : List UInt8 := dkwX4_goThrough_4 ++ dktX4_goThrough_5
def dkwX4_goThrough_3 : List UInt8 := [42, 180, 1, 74, 21, 4, 182, 1, 0, 153, 0, 30, 42, 89, 180, 1, 74, 21, 4, 184, 1, 6, 100]
abbrev dktX4_goThrough_3 : List UInt8 := dkwX4_goThrough_3 ++ dktX4_goThrough_4
def dkwX4_goThrough_2 : List UInt8 := [184, 0, 88, 153, 0, 65, 42, 180, 0, 21, 27, 50, 29, 47, 136, 54, 4, 42, 42, 180, 0, 76, 29, 46]
abbrev dktX4_goThrough_2 : List UInt8 := dkwX4_goThrough_2 ++ dktX4_goThrough_3
def dkwX4_goThrough_1 : List UInt8 := [162, 0, 97, 42, 180, 1, 71, 2, 160, 0, 89, 42, 180, 0, 21, 27, 50, 29, 47, 9, 20, 0, 137]
abbrev dktX4_goThrough_1 : List UInt8 := dkwX4_goThrough_1 ++ dktX4_goThrough_2
def dkwX4_goThrough_0 : List UInt8 := [42, 2, 181, 1, 71, 42, 42, 182, 0, 129, 181, 1, 74, 42, 3, 181, 1, 77, 3, 62, 29, 28]
abbrev dktX4_goThrough_0 : List UInt8 := dkwX4_goThrough_0 ++ dktX4_goThrough_1
theorem dksX4_goThrough_0 : cX4_goThrough.data.toList.drop 0 = dktX4_goThrough_0 := by decide +kernel
theorem dksX4_goThrough_1 : cX4_goThrough.data.toList.drop 22 = dktX4_goThrough_1 := dk_seg dksX4_goThrough_0 22 rfl rfl
theorem dksX4_goThrough_2 : cX4_goThrough.data.toList.drop 45 = dktX4_goThrough_2 := dk_seg dksX4_goThrough_1 23 rfl rfl
theorem dksX4_goThrough_3 : cX4_goThrough.data.toList.drop 69 = dktX4_goThrough_3 := dk_seg dksX4_goThrough_2 24 rfl rfl
theorem dksX4_goThrough_4 : cX4_goThrough.data.toList.drop 92 = dktX4_goThrough_4 := dk_seg dksX4_goThrough_3 23 rfl rfl
theorem dksX4_goThrough_5 : cX4_goThrough.data.toList.drop 116 = dktX4_goThrough_5 := dk_seg dksX4_goThrough_4 24 rfl rfl
theorem dX4_goThrough_0 : decode cX4_goThrough 0 = .ok (.aload_n 0, 1) := dk_42 (dk_at dksX4_goThrough_0 0 rfl rfl)
theorem dX4_goThrough_1 : decode cX4_goThrough 1 = .ok (.iconst (-1), 1) := dk_2 (dk_at dksX4_goThrough_0 1 rfl rfl)
theorem dX4_goThrough_2 : decode cX4_goThrough 2 = .ok (.putfield 327, 3) := dk_181 1 71 (dk_at dksX4_goThrough_0 2 rfl rfl)
theorem dX4_goThrough_5 : decode cX4_goThrough 5 = .ok (.aload_n 0, 1) := dk_42 (dk_at dksX4_goThrough_0 5 rfl rfl)
theorem dX4_goThrough_6 : decode cX4_goThrough 6 = .ok (.aload_n 0, 1) := dk_42 (dk_at dksX4_goThrough_0 6 rfl rfl)
theorem dX4_goThrough_7 : decode cX4_goThrough 7 = .ok (.invokevirtual 129, 3) := dk_182 0 129 (dk_at dksX4_goThrough_0 7 rfl rfl)
theorem dX4_goThrough_10 : decode cX4_goThrough 10 = .ok (.putfield 330, 3) := dk_181 1 74 (dk_at dksX4_goThrough_0 10 rfl rfl)
theorem dX4_goThrough_13 : decode cX4_goThrough 13 = .ok (.aload_n 0, 1) := dk_42 (dk_at dksX4_goThrough_0 13 rfl rfl)
theorem dX4_goThrough_14 : decode cX4_goThrough 14 = .ok (.iconst 0, 1) := dk_3 (dk_at dksX4_goThrough_0 14 rfl rfl)
theorem dX4_goThrough_15 : decode cX4_goThrough 15 = .ok (.putfield 333, 3) := dk_181 1 77 (dk_at dksX4_goThrough_0 15 rfl rfl)
theorem dX4_goThrough_18 : decode cX4_goThrough 18 = .ok (.iconst 0, 1) := dk_3 (dk_at dksX4_goThrough_0 18 rfl rfl)
theorem dX4_goThrough_19 : decode cX4_goThrough 19 = .ok (.istore_n 3, 1) := dk_62 (dk_at dksX4_goThrough_0 19 rfl rfl)
theorem dX4_goThrough_20 : decode cX4_goThrough 20 = .ok (.iload_n 3, 1) := dk_29 (dk_at dksX4_goThrough_0 20 rfl rfl)
theorem dX4_goThrough_21 : decode cX4_goThrough 21 = .ok (.iload_n 2, 1) := dk_28 (dk_at dksX4_goThrough_0 21 rfl rfl)
theorem dX4_goThrough_22 : decode cX4_goThrough 22 = .ok (.if_icmp .ge 97, 3) := dk_162 0 97 (dk_at dksX4_goThrough_1 0 rfl rfl)
theorem dX4_goThrough_25 : decode cX4_goThrough 25 = .ok (.aload_n 0, 1) := dk_42 (dk_at dksX4_goThrough_1 3 rfl rfl)
theorem dX4_goThrough_26 : decode cX4_goThrough 26 = .ok (.getfield 327, 3) := dk_180 1 71 (dk_at dksX4_goThrough_1 4 rfl rfl)
theorem dX4_goThrough_29 : decode cX4_goThrough 29 = .ok (.iconst (-1), 1) := dk_2 (dk_at dksX4_goThrough_1 7 rfl rfl)
theorem dX4_goThrough_30 : decode cX4_goThrough 30 = .ok (.if_icmp .ne 89, 3) := dk_160 0 89 (dk_at dksX4_goThrough_1 8 rfl rfl)
theorem dX4_goThrough_33 : decode cX4_goThrough 33 = .ok (.aload_n 0, 1) := dk_42 (dk_at dksX4_goThrough_1 11 rfl rfl)
theorem dX4_goThrough_34 : decode cX4_goThrough 34 = .ok (.getfield 21, 3) := dk_180 0 21 (dk_at dksX4_goThrough_1 12 rfl rfl)
theorem dX4_goThrough_37 : decode cX4_goThrough 37 = .ok (.iload_n 1, 1) := dk_27 (dk_at dksX4_goThrough_1 15 rfl rfl)
theorem dX4_goThrough_38 : decode cX4_goThrough 38 = .ok (.aaload, 1) := dk_50 (dk_at dksX4_goThrough_1 16 rfl rfl)
theorem dX4_goThrough_39 : decode cX4_goThrough 39 = .ok (.iload_n 3, 1) := dk_29 (dk_at dksX4_goThrough_1 17 rfl rfl)
theorem dX4_goThrough_40 : decode cX4_goThrough 40 = .ok (.laload, 1) := dk_47 (dk_at dksX4_goThrough_1 18 rfl rfl)
theorem dX4_goThrough_41 : decode cX4_goThrough 41 = .ok (.lconst 0, 1) := dk_9 (dk_at dksX4_goThrough_1 19 rfl rfl)
theorem dX4_goThrough_42 : decode cX4_goThrough 42 = .ok (.ldc2_w 137, 3) := dk_20 0 137 (dk_at dksX4_goThrough_1 20 rfl rfl)
theorem dX4_goThrough_45 : decode cX4_goThrough 45 = .ok (.invokestatic 88, 3) := dk_184 0 88 (dk_at dksX4_goThrough_2 0 rfl rfl)
theorem dX4_goThrough_48 : decode cX4_goThrough 48 = .ok (.ifCond .eq 65, 3) := dk_153 0 65 (dk_at dksX4_goThrough_2 3 rfl rfl)
theorem dX4_goThrough_51 : decode cX4_goThrough 51 = .ok (.aload_n 0, 1) := dk_42 (dk_at dksX4_goThrough_2 6 rfl rfl)
theorem dX4_goThrough_52 : decode cX4_goThrough 52 = .ok (.getfield 21, 3) := dk_180 0 21 (dk_at dksX4_goThrough_2 7 rfl rfl)
theorem dX4_goThrough_55 : decode cX4_goThrough 55 = .ok (.iload_n 1, 1) := dk_27 (dk_at dksX4_goThrough_2 10 rfl rfl)
theorem dX4_goThrough_56 : decode cX4_goThrough 56 = .ok (.aaload, 1) := dk_50 (dk_at dksX4_goThrough_2 11 rfl rfl)
theorem dX4_goThrough_57 : decode cX4_goThrough 57 = .ok (.iload_n 3, 1) := dk_29 (dk_at dksX4_goThrough_2 12 rfl rfl)
theorem dX4_goThrough_58 : decode cX4_goThrough 58 = .ok (.laload, 1) := dk_47 (dk_at dksX4_goThrough_2 13 rfl rfl)
theorem dX4_goThrough_59 : decode cX4_goThrough 59 = .ok (.l2i, 1) := dk_136 (dk_at dksX4_goThrough_2 14 rfl rfl)
theorem dX4_goThrough_60 : decode cX4_goThrough 60 = .ok (.istore 4, 2) := dk_54 4 (dk_at dksX4_goThrough_2 15 rfl rfl)
theorem dX4_goThrough_62 : decode cX4_goThrough 62 = .ok (.aload_n 0, 1) := dk_42 (dk_at dksX4_goThrough_2 17 rfl rfl)
theorem dX4_goThrough_63 : decode cX4_goThrough 63 = .ok (.aload_n 0, 1) := dk_42 (dk_at dksX4_goThrough_2 18 rfl rfl)
theorem dX4_goThrough_64 : decode cX4_goThrough 64 = .ok (.getfield 76, 3) := dk_180 0 76 (dk_at dksX4_goThrough_2 19 rfl rfl)
theorem dX4_goThrough_67 : decode cX4_goThrough 67 = .ok (.iload_n 3, 1) := dk_29 (dk_at dksX4_goThrough_2 22 rfl rfl)
theorem dX4_goThrough_68 : decode cX4_goThrough 68 = .ok (.iaload, 1) := dk_46 (dk_at dksX4_goThrough_2 23 rfl rfl)
theorem dX4_goThrough_69 : decode cX4_goThrough 69 = .ok (.aload_n 0, 1) := dk_42 (dk_at dksX4_goThrough_3 0 rfl rfl)
theorem dX4_goThrough_70 : decode cX4_goThrough 70 = .ok (.getfield 330, 3) := dk_180 1 74 (dk_at dksX4_goThrough_3 1 rfl rfl)
theorem dX4_goThrough_73 : decode cX4_goThrough 73 = .ok (.iload 4, 2) := dk_21 4 (dk_at dksX4_goThrough_3 4 rfl rfl)
theorem dX4_goThrough_75 : decode cX4_goThrough 75 = .ok (.invokevirtual 256, 3) := dk_182 1 0 (dk_at dksX4_goThrough_3 6 rfl rfl)
theorem dX4_goThrough_78 : decode cX4_goThrough 78 = .ok (.ifCond .eq 30, 3) := dk_153 0 30 (dk_at dksX4_goThrough_3 9 rfl rfl)
theorem dX4_goThrough_81 : decode cX4_goThrough 81 = .ok (.aload_n 0, 1) := dk_42 (dk_at dksX4_goThrough_3 12 rfl rfl)
theorem dX4_goThrough_82 : decode cX4_goThrough 82 = .ok (.dup, 1) := dk_89 (dk_at dksX4_goThrough_3 13 rfl rfl)
theorem dX4_goThrough_83 : decode cX4_goThrough 83 = .ok (.getfield 330, 3) := dk_180 1 74 (dk_at dksX4_goThrough_3 14 rfl rfl)
theorem dX4_goThrough_86 : decode cX4_goThrough 86 = .ok (.iload 4, 2) := dk_21 4 (dk_at dksX4_goThrough_3 17 rfl rfl)
theorem dX4_goThrough_88 : decode cX4_goThrough 88 = .ok (.invokestatic 262, 3) := dk_184 1 6 (dk_at dksX4_goThrough_3 19 rfl rfl)
theorem dX4_goThrough_91 : decode cX4_goThrough 91 = .ok (.isub, 1) := dk_100 (dk_at dksX4_goThrough_3 22 rfl rfl)
theorem dX4_goThrough_92 : decode cX4_goThrough 92 = .ok (.putfield 330, 3) := dk_181 1 74 (dk_at dksX4_goThrough_4 0 rfl rfl)
theorem dX4_goThrough_95 : decode cX4_goThrough 95 = .ok (.aload_n 0, 1) := dk_42 (dk_at dksX4_goThrough_4 3 rfl rfl)
theorem dX4_goThrough_96 : decode cX4_goThrough 96 = .ok (.dup, 1) := dk_89 (dk_at dksX4_goThrough_4 4 rfl rfl)
theorem dX4_goThrough_97 : decode cX4_goThrough 97 = .ok (.getfield 333, 3) := dk_180 1 77 (dk_at dksX4_goThrough_4 5 rfl rfl)
theorem dX4_goThrough_100 : decode cX4_goThrough 100 = .ok (.iconst 1, 1) := dk_4 (dk_at dksX4_goThrough_4 8 rfl rfl)
theorem dX4_goThrough_101 : decode cX4_goThrough 101 = .ok (.iadd, 1) := dk_96 (dk_at dksX4_goThrough_4 9 rfl rfl)
theorem dX4_goThrough_102 : decode cX4_goThrough 102 = .ok (.putfield 333, 3) := dk_181 1 77 (dk_at dksX4_goThrough_4 10 rfl rfl)
theorem dX4_goThrough_105 : decode cX4_goThrough 105 = .ok (.goto 8, 3) := dk_167 0 8 (dk_at dksX4_goThrough_4 13 rfl rfl)
theorem dX4_goThrough_108 : decode cX4_goThrough 108 = .ok (.aload_n 0, 1) := dk_42 (dk_at dksX4_goThrough_4 16 rfl rfl)
theorem dX4_goThrough_109 : decode cX4_goThrough 109 = .ok (.iload_n 3, 1) := dk_29 (dk_at dksX4_goThrough_4 17 rfl rfl)
theorem dX4_goThrough_110 : decode cX4_goThrough 110 = .ok (.putfield 327, 3) := dk_181 1 71 (dk_at dksX4_goThrough_4 18 rfl rfl)
theorem dX4_goThrough_113 : decode cX4_goThrough 113 = .ok (.iinc 3 1, 3) := dk_132 3 1 (dk_at dksX4_goThrough_4 21 rfl rfl)
theorem dX4_goThrough_116 : decode cX4_goThrough 116 = .ok (.goto (-96), 3) := dk_167 255 160 (dk_at dksX4_goThrough_5 0 rfl rfl)
theorem dX4_goThrough_119 : decode cX4_goThrough 119 = .ok (.return_, 1) := dk_177 (dk_at dksX4_goThrough_5 3 rfl rfl)
abbrev cX4_put : ByteArray := prog_19_method_70_code
def yX4_put : MethodName := ⟨RX4, "put", "(III)I"⟩
def dkwX4_put_3 : List UInt8 := [132, 5, 1, 167, 255, 223, 42, 180, 1, 77, 172]
abbrev dktX4_put_3 : List UInt8 := dkwX4_put_3 ++ []
def dkwX4_put_2 : List UInt8 := [180, 0, 43, 21, 5, 42, 180, 0, 40, 21, 5, 46, 42, 180, 1, 74, 21, 5, 184, 0, 100, 100, 79]
abbrev dktX4_put_2 : List UInt8 := dkwX4_put_2 ++ dktX4_put_3
def dkwX4_put_1 : List UInt8 := [180, 1, 71, 2, 159, 0, 10, 42, 16, 251, 182, 0, 110, 172, 3, 54, 5, 21, 5, 6, 162, 0, 33, 42]
abbrev dktX4_put_1 : List UInt8 := dkwX4_put_1 ++ dktX4_put_2
def dkwX4_put_0 : List UInt8 := [42, 27, 28, 29, 182, 1, 80, 54, 4, 21, 4, 153, 0, 6, 21, 4, 172, 42, 28, 29, 182, 1, 83, 42]
abbrev dktX4_put_0 : List UInt8 := dkwX4_put_0 ++ dktX4_put_1
theorem dksX4_put_0 : cX4_put.data.toList.drop 0 = dktX4_put_0 := by decide +kernel
theorem dksX4_put_1 : cX4_put.data.toList.drop 24 = dktX4_put_1 := dk_seg dksX4_put_0 24 rfl rfl
theorem dksX4_put_2 : cX4_put.data.toList.drop 48 = dktX4_put_2 := dk_seg dksX4_put_1 24 rfl rfl
theorem dksX4_put_3 : cX4_put.data.toList.drop 71 = dktX4_put_3 := dk_seg dksX4_put_2 23 rfl rfl
theorem dX4_put_0 : decode cX4_put 0 = .ok (.aload_n 0, 1) := dk_42 (dk_at dksX4_put_0 0 rfl rfl)
theorem dX4_put_1 : decode cX4_put 1 = .ok (.iload_n 1, 1) := dk_27 (dk_at dksX4_put_0 1 rfl rfl)
theorem dX4_put_2 : decode cX4_put 2 = .ok (.iload_n 2, 1) := dk_28 (dk_at dksX4_put_0 2 rfl rfl)
theorem dX4_put_3 : decode cX4_put 3 = .ok (.iload_n 3, 1) := dk_29 (dk_at dksX4_put_0 3 rfl rfl)
theorem dX4_put_4 : decode cX4_put 4 = .ok (.invokevirtual 336, 3) := dk_182 1 80 (dk_at dksX4_put_0 4 rfl rfl)
theorem dX4_put_7 : decode cX4_put 7 = .ok (.istore 4, 2) := dk_54 4 (dk_at dksX4_put_0 7 rfl rfl)
theorem dX4_put_9 : decode cX4_put 9 = .ok (.iload 4, 2) := dk_21 4 (dk_at dksX4_put_0 9 rfl rfl)
theorem dX4_put_11 : decode cX4_put 11 = .ok (.ifCond .eq 6, 3) := dk_153 0 6 (dk_at dksX4_put_0 11 rfl rfl)
theorem dX4_put_14 : decode cX4_put 14 = .ok (.iload 4, 2) := dk_21 4 (dk_at dksX4_put_0 14 rfl rfl)
theorem dX4_put_16 : decode cX4_put 16 = .ok (.ireturn, 1) := dk_172 (dk_at dksX4_put_0 16 rfl rfl)
theorem dX4_put_17 : decode cX4_put 17 = .ok (.aload_n 0, 1) := dk_42 (dk_at dksX4_put_0 17 rfl rfl)
theorem dX4_put_18 : decode cX4_put 18 = .ok (.iload_n 2, 1) := dk_28 (dk_at dksX4_put_0 18 rfl rfl)
theorem dX4_put_19 : decode cX4_put 19 = .ok (.iload_n 3, 1) := dk_29 (dk_at dksX4_put_0 19 rfl rfl)
theorem dX4_put_20 : decode cX4_put 20 = .ok (.invokevirtual 339, 3) := dk_182 1 83 (dk_at dksX4_put_0 20 rfl rfl)
theorem dX4_put_23 : decode cX4_put 23 = .ok (.aload_n 0, 1) := dk_42 (dk_at dksX4_put_0 23 rfl rfl)
theorem dX4_put_24 : decode cX4_put 24 = .ok (.getfield 327, 3) := dk_180 1 71 (dk_at dksX4_put_1 0 rfl rfl)
theorem dX4_put_27 : decode cX4_put 27 = .ok (.iconst (-1), 1) := dk_2 (dk_at dksX4_put_1 3 rfl rfl)
theorem dX4_put_28 : decode cX4_put 28 = .ok (.if_icmp .eq 10, 3) := dk_159 0 10 (dk_at dksX4_put_1 4 rfl rfl)
theorem dX4_put_31 : decode cX4_put 31 = .ok (.aload_n 0, 1) := dk_42 (dk_at dksX4_put_1 7 rfl rfl)
theorem dX4_put_32 : decode cX4_put 32 = .ok (.bipush (-5), 2) := dk_16 251 (dk_at dksX4_put_1 8 rfl rfl)
theorem dX4_put_34 : decode cX4_put 34 = .ok (.invokevirtual 110, 3) := dk_182 0 110 (dk_at dksX4_put_1 10 rfl rfl)
theorem dX4_put_37 : decode cX4_put 37 = .ok (.ireturn, 1) := dk_172 (dk_at dksX4_put_1 13 rfl rfl)
theorem dX4_put_38 : decode cX4_put 38 = .ok (.iconst 0, 1) := dk_3 (dk_at dksX4_put_1 14 rfl rfl)
theorem dX4_put_39 : decode cX4_put 39 = .ok (.istore 5, 2) := dk_54 5 (dk_at dksX4_put_1 15 rfl rfl)
theorem dX4_put_41 : decode cX4_put 41 = .ok (.iload 5, 2) := dk_21 5 (dk_at dksX4_put_1 17 rfl rfl)
theorem dX4_put_43 : decode cX4_put 43 = .ok (.iconst 3, 1) := dk_6 (dk_at dksX4_put_1 19 rfl rfl)
theorem dX4_put_44 : decode cX4_put 44 = .ok (.if_icmp .ge 33, 3) := dk_162 0 33 (dk_at dksX4_put_1 20 rfl rfl)
theorem dX4_put_47 : decode cX4_put 47 = .ok (.aload_n 0, 1) := dk_42 (dk_at dksX4_put_1 23 rfl rfl)
theorem dX4_put_48 : decode cX4_put 48 = .ok (.getfield 43, 3) := dk_180 0 43 (dk_at dksX4_put_2 0 rfl rfl)
theorem dX4_put_51 : decode cX4_put 51 = .ok (.iload 5, 2) := dk_21 5 (dk_at dksX4_put_2 3 rfl rfl)
theorem dX4_put_53 : decode cX4_put 53 = .ok (.aload_n 0, 1) := dk_42 (dk_at dksX4_put_2 5 rfl rfl)
theorem dX4_put_54 : decode cX4_put 54 = .ok (.getfield 40, 3) := dk_180 0 40 (dk_at dksX4_put_2 6 rfl rfl)
theorem dX4_put_57 : decode cX4_put 57 = .ok (.iload 5, 2) := dk_21 5 (dk_at dksX4_put_2 9 rfl rfl)
theorem dX4_put_59 : decode cX4_put 59 = .ok (.iaload, 1) := dk_46 (dk_at dksX4_put_2 11 rfl rfl)
theorem dX4_put_60 : decode cX4_put 60 = .ok (.aload_n 0, 1) := dk_42 (dk_at dksX4_put_2 12 rfl rfl)
theorem dX4_put_61 : decode cX4_put 61 = .ok (.getfield 330, 3) := dk_180 1 74 (dk_at dksX4_put_2 13 rfl rfl)
theorem dX4_put_64 : decode cX4_put 64 = .ok (.iload 5, 2) := dk_21 5 (dk_at dksX4_put_2 16 rfl rfl)
theorem dX4_put_66 : decode cX4_put 66 = .ok (.invokestatic 100, 3) := dk_184 0 100 (dk_at dksX4_put_2 18 rfl rfl)
theorem dX4_put_69 : decode cX4_put 69 = .ok (.isub, 1) := dk_100 (dk_at dksX4_put_2 21 rfl rfl)
theorem dX4_put_70 : decode cX4_put 70 = .ok (.iastore, 1) := dk_79 (dk_at dksX4_put_2 22 rfl rfl)
theorem dX4_put_71 : decode cX4_put 71 = .ok (.iinc 5 1, 3) := dk_132 5 1 (dk_at dksX4_put_3 0 rfl rfl)
theorem dX4_put_74 : decode cX4_put 74 = .ok (.goto (-33), 3) := dk_167 255 223 (dk_at dksX4_put_3 3 rfl rfl)
theorem dX4_put_77 : decode cX4_put 77 = .ok (.aload_n 0, 1) := dk_42 (dk_at dksX4_put_3 6 rfl rfl)
theorem dX4_put_78 : decode cX4_put 78 = .ok (.getfield 333, 3) := dk_180 1 77 (dk_at dksX4_put_3 7 rfl rfl)
theorem dX4_put_81 : decode cX4_put 81 = .ok (.ireturn, 1) := dk_172 (dk_at dksX4_put_3 10 rfl rfl)
abbrev cX4_build : ByteArray := prog_19_method_72_code
def yX4_build : MethodName := ⟨RX4, "build", "(III)I"⟩
def dkwX4_build_6 : List UInt8 := [167, 255, 168, 29, 154, 0, 8, 21, 5, 167, 0, 8, 21, 5, 184, 1, 94, 172]
abbrev dktX4_build_6 : List UInt8 := dkwX4_build_6 ++ []
def dkwX4_build_5 : List UInt8 := [159, 0, 11, 22, 9, 22, 6, 148, 158, 0, 11, 21, 8, 54, 5, 22, 9, 55, 6, 132, 8, 1]
abbrev dktX4_build_5 : List UInt8 := dkwX4_build_5 ++ dktX4_build_6
def dkwX4_build_4 : List UInt8 := [180, 0, 43, 21, 9, 3, 79, 132, 9, 1, 167, 255, 223, 25, 4, 28, 182, 1, 48, 55, 9, 21, 5, 2]
abbrev dktX4_build_4 : List UInt8 := dkwX4_build_4 ++ dktX4_build_5
def dkwX4_build_3 : List UInt8 := [21, 9, 6, 162, 0, 33, 25, 4, 180, 0, 40, 21, 9, 21, 8, 21, 9, 184, 0, 100, 79, 25, 4]
abbrev dktX4_build_3 : List UInt8 := dkwX4_build_3 ++ dktX4_build_4
def dkwX4_build_2 : List UInt8 := [55, 6, 3, 54, 8, 21, 8, 16, 125, 162, 0, 87, 21, 8, 184, 1, 94, 27, 163, 0, 72, 3, 54, 9]
abbrev dktX4_build_2 : List UInt8 := dkwX4_build_2 ++ dktX4_build_3
def dkwX4_build_1 : List UInt8 := [184, 0, 88, 154, 0, 10, 42, 16, 254, 182, 0, 110, 172, 42, 182, 0, 239, 58, 4, 2, 54, 5, 9]
abbrev dktX4_build_1 : List UInt8 := dkwX4_build_1 ++ dktX4_build_2
def dkwX4_build_0 : List UInt8 := [27, 133, 9, 20, 1, 92, 184, 0, 88, 153, 0, 20, 28, 184, 1, 42, 153, 0, 13, 29, 133, 9, 10]
abbrev dktX4_build_0 : List UInt8 := dkwX4_build_0 ++ dktX4_build_1
theorem dksX4_build_0 : cX4_build.data.toList.drop 0 = dktX4_build_0 := by decide +kernel
theorem dksX4_build_1 : cX4_build.data.toList.drop 23 = dktX4_build_1 := dk_seg dksX4_build_0 23 rfl rfl
theorem dksX4_build_2 : cX4_build.data.toList.drop 46 = dktX4_build_2 := dk_seg dksX4_build_1 23 rfl rfl
theorem dksX4_build_3 : cX4_build.data.toList.drop 70 = dktX4_build_3 := dk_seg dksX4_build_2 24 rfl rfl
theorem dksX4_build_4 : cX4_build.data.toList.drop 93 = dktX4_build_4 := dk_seg dksX4_build_3 23 rfl rfl
theorem dksX4_build_5 : cX4_build.data.toList.drop 117 = dktX4_build_5 := dk_seg dksX4_build_4 24 rfl rfl
theorem dksX4_build_6 : cX4_build.data.toList.drop 139 = dktX4_build_6 := dk_seg dksX4_build_5 22 rfl rfl
theorem dX4_build_0 : decode cX4_build 0 = .ok (.iload_n 1, 1) := dk_27 (dk_at dksX4_build_0 0 rfl rfl)
theorem dX4_build_1 : decode cX4_build 1 = .ok (.i2l, 1) := dk_133 (dk_at dksX4_build_0 1 rfl rfl)
theorem dX4_build_2 : decode cX4_build 2 = .ok (.lconst 0, 1) := dk_9 (dk_at dksX4_build_0 2 rfl rfl)
theorem dX4_build_3 : decode cX4_build 3 = .ok (.ldc2_w 348, 3) := dk_20 1 92 (dk_at dksX4_build_0 3 rfl rfl)
theorem dX4_build_6 : decode cX4_build 6 = .ok (.invokestatic 88, 3) := dk_184 0 88 (dk_at dksX4_build_0 6 rfl rfl)
theorem dX4_build_9 : decode cX4_build 9 = .ok (.ifCond .eq 20, 3) := dk_153 0 20 (dk_at dksX4_build_0 9 rfl rfl)
theorem dX4_build_12 : decode cX4_build 12 = .ok (.iload_n 2, 1) := dk_28 (dk_at dksX4_build_0 12 rfl rfl)
theorem dX4_build_13 : decode cX4_build 13 = .ok (.invokestatic 298, 3) := dk_184 1 42 (dk_at dksX4_build_0 13 rfl rfl)
theorem dX4_build_16 : decode cX4_build 16 = .ok (.ifCond .eq 13, 3) := dk_153 0 13 (dk_at dksX4_build_0 16 rfl rfl)
theorem dX4_build_19 : decode cX4_build 19 = .ok (.iload_n 3, 1) := dk_29 (dk_at dksX4_build_0 19 rfl rfl)
theorem dX4_build_20 : decode cX4_build 20 = .ok (.i2l, 1) := dk_133 (dk_at dksX4_build_0 20 rfl rfl)
theorem dX4_build_21 : decode cX4_build 21 = .ok (.lconst 0, 1) := dk_9 (dk_at dksX4_build_0 21 rfl rfl)
theorem dX4_build_22 : decode cX4_build 22 = .ok (.lconst 1, 1) := dk_10 (dk_at dksX4_build_0 22 rfl rfl)
theorem dX4_build_23 : decode cX4_build 23 = .ok (.invokestatic 88, 3) := dk_184 0 88 (dk_at dksX4_build_1 0 rfl rfl)
theorem dX4_build_26 : decode cX4_build 26 = .ok (.ifCond .ne 10, 3) := dk_154 0 10 (dk_at dksX4_build_1 3 rfl rfl)
theorem dX4_build_29 : decode cX4_build 29 = .ok (.aload_n 0, 1) := dk_42 (dk_at dksX4_build_1 6 rfl rfl)
theorem dX4_build_30 : decode cX4_build 30 = .ok (.bipush (-2), 2) := dk_16 254 (dk_at dksX4_build_1 7 rfl rfl)
theorem dX4_build_32 : decode cX4_build 32 = .ok (.invokevirtual 110, 3) := dk_182 0 110 (dk_at dksX4_build_1 9 rfl rfl)
theorem dX4_build_35 : decode cX4_build 35 = .ok (.ireturn, 1) := dk_172 (dk_at dksX4_build_1 12 rfl rfl)
theorem dX4_build_36 : decode cX4_build 36 = .ok (.aload_n 0, 1) := dk_42 (dk_at dksX4_build_1 13 rfl rfl)
theorem dX4_build_37 : decode cX4_build 37 = .ok (.invokevirtual 239, 3) := dk_182 0 239 (dk_at dksX4_build_1 14 rfl rfl)
theorem dX4_build_40 : decode cX4_build 40 = .ok (.astore 4, 2) := dk_58 4 (dk_at dksX4_build_1 17 rfl rfl)
theorem dX4_build_42 : decode cX4_build 42 = .ok (.iconst (-1), 1) := dk_2 (dk_at dksX4_build_1 19 rfl rfl)
theorem dX4_build_43 : decode cX4_build 43 = .ok (.istore 5, 2) := dk_54 5 (dk_at dksX4_build_1 20 rfl rfl)
theorem dX4_build_45 : decode cX4_build 45 = .ok (.lconst 0, 1) := dk_9 (dk_at dksX4_build_1 22 rfl rfl)
theorem dX4_build_46 : decode cX4_build 46 = .ok (.lstore 6, 2) := dk_55 6 (dk_at dksX4_build_2 0 rfl rfl)
theorem dX4_build_48 : decode cX4_build 48 = .ok (.iconst 0, 1) := dk_3 (dk_at dksX4_build_2 2 rfl rfl)
theorem dX4_build_49 : decode cX4_build 49 = .ok (.istore 8, 2) := dk_54 8 (dk_at dksX4_build_2 3 rfl rfl)
theorem dX4_build_51 : decode cX4_build 51 = .ok (.iload 8, 2) := dk_21 8 (dk_at dksX4_build_2 5 rfl rfl)
theorem dX4_build_53 : decode cX4_build 53 = .ok (.bipush 125, 2) := dk_16 125 (dk_at dksX4_build_2 7 rfl rfl)
theorem dX4_build_55 : decode cX4_build 55 = .ok (.if_icmp .ge 87, 3) := dk_162 0 87 (dk_at dksX4_build_2 9 rfl rfl)
theorem dX4_build_58 : decode cX4_build 58 = .ok (.iload 8, 2) := dk_21 8 (dk_at dksX4_build_2 12 rfl rfl)
theorem dX4_build_60 : decode cX4_build 60 = .ok (.invokestatic 350, 3) := dk_184 1 94 (dk_at dksX4_build_2 14 rfl rfl)
theorem dX4_build_63 : decode cX4_build 63 = .ok (.iload_n 1, 1) := dk_27 (dk_at dksX4_build_2 17 rfl rfl)
theorem dX4_build_64 : decode cX4_build 64 = .ok (.if_icmp .gt 72, 3) := dk_163 0 72 (dk_at dksX4_build_2 18 rfl rfl)
theorem dX4_build_67 : decode cX4_build 67 = .ok (.iconst 0, 1) := dk_3 (dk_at dksX4_build_2 21 rfl rfl)
theorem dX4_build_68 : decode cX4_build 68 = .ok (.istore 9, 2) := dk_54 9 (dk_at dksX4_build_2 22 rfl rfl)
theorem dX4_build_70 : decode cX4_build 70 = .ok (.iload 9, 2) := dk_21 9 (dk_at dksX4_build_3 0 rfl rfl)
theorem dX4_build_72 : decode cX4_build 72 = .ok (.iconst 3, 1) := dk_6 (dk_at dksX4_build_3 2 rfl rfl)
theorem dX4_build_73 : decode cX4_build 73 = .ok (.if_icmp .ge 33, 3) := dk_162 0 33 (dk_at dksX4_build_3 3 rfl rfl)
theorem dX4_build_76 : decode cX4_build 76 = .ok (.aload 4, 2) := dk_25 4 (dk_at dksX4_build_3 6 rfl rfl)
theorem dX4_build_78 : decode cX4_build 78 = .ok (.getfield 40, 3) := dk_180 0 40 (dk_at dksX4_build_3 8 rfl rfl)
theorem dX4_build_81 : decode cX4_build 81 = .ok (.iload 9, 2) := dk_21 9 (dk_at dksX4_build_3 11 rfl rfl)
theorem dX4_build_83 : decode cX4_build 83 = .ok (.iload 8, 2) := dk_21 8 (dk_at dksX4_build_3 13 rfl rfl)
theorem dX4_build_85 : decode cX4_build 85 = .ok (.iload 9, 2) := dk_21 9 (dk_at dksX4_build_3 15 rfl rfl)
theorem dX4_build_87 : decode cX4_build 87 = .ok (.invokestatic 100, 3) := dk_184 0 100 (dk_at dksX4_build_3 17 rfl rfl)
theorem dX4_build_90 : decode cX4_build 90 = .ok (.iastore, 1) := dk_79 (dk_at dksX4_build_3 20 rfl rfl)
theorem dX4_build_91 : decode cX4_build 91 = .ok (.aload 4, 2) := dk_25 4 (dk_at dksX4_build_3 21 rfl rfl)
theorem dX4_build_93 : decode cX4_build 93 = .ok (.getfield 43, 3) := dk_180 0 43 (dk_at dksX4_build_4 0 rfl rfl)
theorem dX4_build_96 : decode cX4_build 96 = .ok (.iload 9, 2) := dk_21 9 (dk_at dksX4_build_4 3 rfl rfl)
theorem dX4_build_98 : decode cX4_build 98 = .ok (.iconst 0, 1) := dk_3 (dk_at dksX4_build_4 5 rfl rfl)
theorem dX4_build_99 : decode cX4_build 99 = .ok (.iastore, 1) := dk_79 (dk_at dksX4_build_4 6 rfl rfl)
theorem dX4_build_100 : decode cX4_build 100 = .ok (.iinc 9 1, 3) := dk_132 9 1 (dk_at dksX4_build_4 7 rfl rfl)
theorem dX4_build_103 : decode cX4_build 103 = .ok (.goto (-33), 3) := dk_167 255 223 (dk_at dksX4_build_4 10 rfl rfl)
theorem dX4_build_106 : decode cX4_build 106 = .ok (.aload 4, 2) := dk_25 4 (dk_at dksX4_build_4 13 rfl rfl)
theorem dX4_build_108 : decode cX4_build 108 = .ok (.iload_n 2, 1) := dk_28 (dk_at dksX4_build_4 15 rfl rfl)
theorem dX4_build_109 : decode cX4_build 109 = .ok (.invokevirtual 304, 3) := dk_182 1 48 (dk_at dksX4_build_4 16 rfl rfl)
theorem dX4_build_112 : decode cX4_build 112 = .ok (.lstore 9, 2) := dk_55 9 (dk_at dksX4_build_4 19 rfl rfl)
theorem dX4_build_114 : decode cX4_build 114 = .ok (.iload 5, 2) := dk_21 5 (dk_at dksX4_build_4 21 rfl rfl)
theorem dX4_build_116 : decode cX4_build 116 = .ok (.iconst (-1), 1) := dk_2 (dk_at dksX4_build_4 23 rfl rfl)
theorem dX4_build_117 : decode cX4_build 117 = .ok (.if_icmp .eq 11, 3) := dk_159 0 11 (dk_at dksX4_build_5 0 rfl rfl)
theorem dX4_build_120 : decode cX4_build 120 = .ok (.lload 9, 2) := dk_22 9 (dk_at dksX4_build_5 3 rfl rfl)
theorem dX4_build_122 : decode cX4_build 122 = .ok (.lload 6, 2) := dk_22 6 (dk_at dksX4_build_5 5 rfl rfl)
theorem dX4_build_124 : decode cX4_build 124 = .ok (.lcmp, 1) := dk_148 (dk_at dksX4_build_5 7 rfl rfl)
theorem dX4_build_125 : decode cX4_build 125 = .ok (.ifCond .le 11, 3) := dk_158 0 11 (dk_at dksX4_build_5 8 rfl rfl)
theorem dX4_build_128 : decode cX4_build 128 = .ok (.iload 8, 2) := dk_21 8 (dk_at dksX4_build_5 11 rfl rfl)
theorem dX4_build_130 : decode cX4_build 130 = .ok (.istore 5, 2) := dk_54 5 (dk_at dksX4_build_5 13 rfl rfl)
theorem dX4_build_132 : decode cX4_build 132 = .ok (.lload 9, 2) := dk_22 9 (dk_at dksX4_build_5 15 rfl rfl)
theorem dX4_build_134 : decode cX4_build 134 = .ok (.lstore 6, 2) := dk_55 6 (dk_at dksX4_build_5 17 rfl rfl)
theorem dX4_build_136 : decode cX4_build 136 = .ok (.iinc 8 1, 3) := dk_132 8 1 (dk_at dksX4_build_5 19 rfl rfl)
theorem dX4_build_139 : decode cX4_build 139 = .ok (.goto (-88), 3) := dk_167 255 168 (dk_at dksX4_build_6 0 rfl rfl)
theorem dX4_build_142 : decode cX4_build 142 = .ok (.iload_n 3, 1) := dk_29 (dk_at dksX4_build_6 3 rfl rfl)
theorem dX4_build_143 : decode cX4_build 143 = .ok (.ifCond .ne 8, 3) := dk_154 0 8 (dk_at dksX4_build_6 4 rfl rfl)
theorem dX4_build_146 : decode cX4_build 146 = .ok (.iload 5, 2) := dk_21 5 (dk_at dksX4_build_6 7 rfl rfl)
theorem dX4_build_148 : decode cX4_build 148 = .ok (.goto 8, 3) := dk_167 0 8 (dk_at dksX4_build_6 9 rfl rfl)
theorem dX4_build_151 : decode cX4_build 151 = .ok (.iload 5, 2) := dk_21 5 (dk_at dksX4_build_6 12 rfl rfl)
theorem dX4_build_153 : decode cX4_build 153 = .ok (.invokestatic 350, 3) := dk_184 1 94 (dk_at dksX4_build_6 14 rfl rfl)
theorem dX4_build_156 : decode cX4_build 156 = .ok (.ireturn, 1) := dk_172 (dk_at dksX4_build_6 17 rfl rfl)
abbrev cX4_takes : ByteArray := prog_19_method_73_code
def yX4_takes : MethodName := ⟨RX4, "takes", "(I)I"⟩
def dkwX4_takes_0 : List UInt8 := [26, 3, 184, 0, 100, 5, 26, 4, 184, 0, 100, 104, 96, 7, 26, 5, 184, 0, 100, 104, 96, 172]
abbrev dktX4_takes_0 : List UInt8 := dkwX4_takes_0 ++ []
theorem dksX4_takes_0 : cX4_takes.data.toList.drop 0 = dktX4_takes_0 := by decide +kernel
theorem dX4_takes_0 : decode cX4_takes 0 = .ok (.iload_n 0, 1) := dk_26 (dk_at dksX4_takes_0 0 rfl rfl)
theorem dX4_takes_1 : decode cX4_takes 1 = .ok (.iconst 0, 1) := dk_3 (dk_at dksX4_takes_0 1 rfl rfl)
theorem dX4_takes_2 : decode cX4_takes 2 = .ok (.invokestatic 100, 3) := dk_184 0 100 (dk_at dksX4_takes_0 2 rfl rfl)
theorem dX4_takes_5 : decode cX4_takes 5 = .ok (.iconst 2, 1) := dk_5 (dk_at dksX4_takes_0 5 rfl rfl)
theorem dX4_takes_6 : decode cX4_takes 6 = .ok (.iload_n 0, 1) := dk_26 (dk_at dksX4_takes_0 6 rfl rfl)
theorem dX4_takes_7 : decode cX4_takes 7 = .ok (.iconst 1, 1) := dk_4 (dk_at dksX4_takes_0 7 rfl rfl)
theorem dX4_takes_8 : decode cX4_takes 8 = .ok (.invokestatic 100, 3) := dk_184 0 100 (dk_at dksX4_takes_0 8 rfl rfl)
theorem dX4_takes_11 : decode cX4_takes 11 = .ok (.imul, 1) := dk_104 (dk_at dksX4_takes_0 11 rfl rfl)
theorem dX4_takes_12 : decode cX4_takes 12 = .ok (.iadd, 1) := dk_96 (dk_at dksX4_takes_0 12 rfl rfl)
theorem dX4_takes_13 : decode cX4_takes 13 = .ok (.iconst 4, 1) := dk_7 (dk_at dksX4_takes_0 13 rfl rfl)
theorem dX4_takes_14 : decode cX4_takes 14 = .ok (.iload_n 0, 1) := dk_26 (dk_at dksX4_takes_0 14 rfl rfl)
theorem dX4_takes_15 : decode cX4_takes 15 = .ok (.iconst 2, 1) := dk_5 (dk_at dksX4_takes_0 15 rfl rfl)
theorem dX4_takes_16 : decode cX4_takes 16 = .ok (.invokestatic 100, 3) := dk_184 0 100 (dk_at dksX4_takes_0 16 rfl rfl)
theorem dX4_takes_19 : decode cX4_takes 19 = .ok (.imul, 1) := dk_104 (dk_at dksX4_takes_0 19 rfl rfl)
theorem dX4_takes_20 : decode cX4_takes 20 = .ok (.iadd, 1) := dk_96 (dk_at dksX4_takes_0 20 rfl rfl)
theorem dX4_takes_21 : decode cX4_takes 21 = .ok (.ireturn, 1) := dk_172 (dk_at dksX4_takes_0 21 rfl rfl)
abbrev cX4_worth : ByteArray := prog_19_method_75_code
def yX4_worth : MethodName := ⟨RX4, "worth", "(II)J"⟩
def dkwX4_worth_3 : List UInt8 := [182, 1, 48, 45, 28, 182, 1, 48, 101, 173]
abbrev dktX4_worth_3 : List UInt8 := dkwX4_worth_3 ++ []
def dkwX4_worth_2 : List UInt8 := [182, 0, 110, 133, 97, 173, 42, 182, 0, 239, 78, 45, 180, 0, 40, 27, 92, 46, 4, 100, 79, 42, 28]
abbrev dktX4_worth_2 : List UInt8 := dkwX4_worth_2 ++ dktX4_worth_3
def dkwX4_worth_1 : List UInt8 := [16, 254, 182, 0, 110, 133, 97, 173, 42, 27, 182, 1, 97, 154, 0, 15, 20, 0, 254, 42, 16, 251]
abbrev dktX4_worth_1 : List UInt8 := dkwX4_worth_1 ++ dktX4_worth_2
def dkwX4_worth_0 : List UInt8 := [27, 133, 9, 20, 0, 137, 184, 0, 88, 153, 0, 10, 28, 184, 1, 42, 154, 0, 15, 20, 0, 254, 42]
abbrev dktX4_worth_0 : List UInt8 := dkwX4_worth_0 ++ dktX4_worth_1
theorem dksX4_worth_0 : cX4_worth.data.toList.drop 0 = dktX4_worth_0 := by decide +kernel
theorem dksX4_worth_1 : cX4_worth.data.toList.drop 23 = dktX4_worth_1 := dk_seg dksX4_worth_0 23 rfl rfl
theorem dksX4_worth_2 : cX4_worth.data.toList.drop 45 = dktX4_worth_2 := dk_seg dksX4_worth_1 22 rfl rfl
theorem dksX4_worth_3 : cX4_worth.data.toList.drop 68 = dktX4_worth_3 := dk_seg dksX4_worth_2 23 rfl rfl
theorem dX4_worth_0 : decode cX4_worth 0 = .ok (.iload_n 1, 1) := dk_27 (dk_at dksX4_worth_0 0 rfl rfl)
theorem dX4_worth_1 : decode cX4_worth 1 = .ok (.i2l, 1) := dk_133 (dk_at dksX4_worth_0 1 rfl rfl)
theorem dX4_worth_2 : decode cX4_worth 2 = .ok (.lconst 0, 1) := dk_9 (dk_at dksX4_worth_0 2 rfl rfl)
theorem dX4_worth_3 : decode cX4_worth 3 = .ok (.ldc2_w 137, 3) := dk_20 0 137 (dk_at dksX4_worth_0 3 rfl rfl)
theorem dX4_worth_6 : decode cX4_worth 6 = .ok (.invokestatic 88, 3) := dk_184 0 88 (dk_at dksX4_worth_0 6 rfl rfl)
theorem dX4_worth_9 : decode cX4_worth 9 = .ok (.ifCond .eq 10, 3) := dk_153 0 10 (dk_at dksX4_worth_0 9 rfl rfl)
theorem dX4_worth_12 : decode cX4_worth 12 = .ok (.iload_n 2, 1) := dk_28 (dk_at dksX4_worth_0 12 rfl rfl)
theorem dX4_worth_13 : decode cX4_worth 13 = .ok (.invokestatic 298, 3) := dk_184 1 42 (dk_at dksX4_worth_0 13 rfl rfl)
theorem dX4_worth_16 : decode cX4_worth 16 = .ok (.ifCond .ne 15, 3) := dk_154 0 15 (dk_at dksX4_worth_0 16 rfl rfl)
theorem dX4_worth_19 : decode cX4_worth 19 = .ok (.ldc2_w 254, 3) := dk_20 0 254 (dk_at dksX4_worth_0 19 rfl rfl)
theorem dX4_worth_22 : decode cX4_worth 22 = .ok (.aload_n 0, 1) := dk_42 (dk_at dksX4_worth_0 22 rfl rfl)
theorem dX4_worth_23 : decode cX4_worth 23 = .ok (.bipush (-2), 2) := dk_16 254 (dk_at dksX4_worth_1 0 rfl rfl)
theorem dX4_worth_25 : decode cX4_worth 25 = .ok (.invokevirtual 110, 3) := dk_182 0 110 (dk_at dksX4_worth_1 2 rfl rfl)
theorem dX4_worth_28 : decode cX4_worth 28 = .ok (.i2l, 1) := dk_133 (dk_at dksX4_worth_1 5 rfl rfl)
theorem dX4_worth_29 : decode cX4_worth 29 = .ok (.ladd, 1) := dk_97 (dk_at dksX4_worth_1 6 rfl rfl)
theorem dX4_worth_30 : decode cX4_worth 30 = .ok (.lreturn, 1) := dk_173 (dk_at dksX4_worth_1 7 rfl rfl)
theorem dX4_worth_31 : decode cX4_worth 31 = .ok (.aload_n 0, 1) := dk_42 (dk_at dksX4_worth_1 8 rfl rfl)
theorem dX4_worth_32 : decode cX4_worth 32 = .ok (.iload_n 1, 1) := dk_27 (dk_at dksX4_worth_1 9 rfl rfl)
theorem dX4_worth_33 : decode cX4_worth 33 = .ok (.invokevirtual 353, 3) := dk_182 1 97 (dk_at dksX4_worth_1 10 rfl rfl)
theorem dX4_worth_36 : decode cX4_worth 36 = .ok (.ifCond .ne 15, 3) := dk_154 0 15 (dk_at dksX4_worth_1 13 rfl rfl)
theorem dX4_worth_39 : decode cX4_worth 39 = .ok (.ldc2_w 254, 3) := dk_20 0 254 (dk_at dksX4_worth_1 16 rfl rfl)
theorem dX4_worth_42 : decode cX4_worth 42 = .ok (.aload_n 0, 1) := dk_42 (dk_at dksX4_worth_1 19 rfl rfl)
theorem dX4_worth_43 : decode cX4_worth 43 = .ok (.bipush (-5), 2) := dk_16 251 (dk_at dksX4_worth_1 20 rfl rfl)
theorem dX4_worth_45 : decode cX4_worth 45 = .ok (.invokevirtual 110, 3) := dk_182 0 110 (dk_at dksX4_worth_2 0 rfl rfl)
theorem dX4_worth_48 : decode cX4_worth 48 = .ok (.i2l, 1) := dk_133 (dk_at dksX4_worth_2 3 rfl rfl)
theorem dX4_worth_49 : decode cX4_worth 49 = .ok (.ladd, 1) := dk_97 (dk_at dksX4_worth_2 4 rfl rfl)
theorem dX4_worth_50 : decode cX4_worth 50 = .ok (.lreturn, 1) := dk_173 (dk_at dksX4_worth_2 5 rfl rfl)
theorem dX4_worth_51 : decode cX4_worth 51 = .ok (.aload_n 0, 1) := dk_42 (dk_at dksX4_worth_2 6 rfl rfl)
theorem dX4_worth_52 : decode cX4_worth 52 = .ok (.invokevirtual 239, 3) := dk_182 0 239 (dk_at dksX4_worth_2 7 rfl rfl)
theorem dX4_worth_55 : decode cX4_worth 55 = .ok (.astore_n 3, 1) := dk_78 (dk_at dksX4_worth_2 10 rfl rfl)
theorem dX4_worth_56 : decode cX4_worth 56 = .ok (.aload_n 3, 1) := dk_45 (dk_at dksX4_worth_2 11 rfl rfl)
theorem dX4_worth_57 : decode cX4_worth 57 = .ok (.getfield 40, 3) := dk_180 0 40 (dk_at dksX4_worth_2 12 rfl rfl)
theorem dX4_worth_60 : decode cX4_worth 60 = .ok (.iload_n 1, 1) := dk_27 (dk_at dksX4_worth_2 15 rfl rfl)
theorem dX4_worth_61 : decode cX4_worth 61 = .ok (.dup2, 1) := dk_92 (dk_at dksX4_worth_2 16 rfl rfl)
theorem dX4_worth_62 : decode cX4_worth 62 = .ok (.iaload, 1) := dk_46 (dk_at dksX4_worth_2 17 rfl rfl)
theorem dX4_worth_63 : decode cX4_worth 63 = .ok (.iconst 1, 1) := dk_4 (dk_at dksX4_worth_2 18 rfl rfl)
theorem dX4_worth_64 : decode cX4_worth 64 = .ok (.isub, 1) := dk_100 (dk_at dksX4_worth_2 19 rfl rfl)
theorem dX4_worth_65 : decode cX4_worth 65 = .ok (.iastore, 1) := dk_79 (dk_at dksX4_worth_2 20 rfl rfl)
theorem dX4_worth_66 : decode cX4_worth 66 = .ok (.aload_n 0, 1) := dk_42 (dk_at dksX4_worth_2 21 rfl rfl)
theorem dX4_worth_67 : decode cX4_worth 67 = .ok (.iload_n 2, 1) := dk_28 (dk_at dksX4_worth_2 22 rfl rfl)
theorem dX4_worth_68 : decode cX4_worth 68 = .ok (.invokevirtual 304, 3) := dk_182 1 48 (dk_at dksX4_worth_3 0 rfl rfl)
theorem dX4_worth_71 : decode cX4_worth 71 = .ok (.aload_n 3, 1) := dk_45 (dk_at dksX4_worth_3 3 rfl rfl)
theorem dX4_worth_72 : decode cX4_worth 72 = .ok (.iload_n 2, 1) := dk_28 (dk_at dksX4_worth_3 4 rfl rfl)
theorem dX4_worth_73 : decode cX4_worth 73 = .ok (.invokevirtual 304, 3) := dk_182 1 48 (dk_at dksX4_worth_3 5 rfl rfl)
theorem dX4_worth_76 : decode cX4_worth 76 = .ok (.lsub, 1) := dk_101 (dk_at dksX4_worth_3 8 rfl rfl)
theorem dX4_worth_77 : decode cX4_worth 77 = .ok (.lreturn, 1) := dk_173 (dk_at dksX4_worth_3 9 rfl rfl)
abbrev cX4_isFree : ByteArray := prog_19_method_74_code
def yX4_isFree : MethodName := ⟨RX4, "isFree", "(I)Z"⟩
def dkwX4_isFree_0 : List UInt8 := [42, 180, 0, 40, 27, 46, 42, 180, 0, 43, 27, 46, 164, 0, 7, 4, 167, 0, 4, 3, 172]
abbrev dktX4_isFree_0 : List UInt8 := dkwX4_isFree_0 ++ []
theorem dksX4_isFree_0 : cX4_isFree.data.toList.drop 0 = dktX4_isFree_0 := by decide +kernel
theorem dX4_isFree_0 : decode cX4_isFree 0 = .ok (.aload_n 0, 1) := dk_42 (dk_at dksX4_isFree_0 0 rfl rfl)
theorem dX4_isFree_1 : decode cX4_isFree 1 = .ok (.getfield 40, 3) := dk_180 0 40 (dk_at dksX4_isFree_0 1 rfl rfl)
theorem dX4_isFree_4 : decode cX4_isFree 4 = .ok (.iload_n 1, 1) := dk_27 (dk_at dksX4_isFree_0 4 rfl rfl)
theorem dX4_isFree_5 : decode cX4_isFree 5 = .ok (.iaload, 1) := dk_46 (dk_at dksX4_isFree_0 5 rfl rfl)
theorem dX4_isFree_6 : decode cX4_isFree 6 = .ok (.aload_n 0, 1) := dk_42 (dk_at dksX4_isFree_0 6 rfl rfl)
theorem dX4_isFree_7 : decode cX4_isFree 7 = .ok (.getfield 43, 3) := dk_180 0 43 (dk_at dksX4_isFree_0 7 rfl rfl)
theorem dX4_isFree_10 : decode cX4_isFree 10 = .ok (.iload_n 1, 1) := dk_27 (dk_at dksX4_isFree_0 10 rfl rfl)
theorem dX4_isFree_11 : decode cX4_isFree 11 = .ok (.iaload, 1) := dk_46 (dk_at dksX4_isFree_0 11 rfl rfl)
theorem dX4_isFree_12 : decode cX4_isFree 12 = .ok (.if_icmp .le 7, 3) := dk_164 0 7 (dk_at dksX4_isFree_0 12 rfl rfl)
theorem dX4_isFree_15 : decode cX4_isFree 15 = .ok (.iconst 1, 1) := dk_4 (dk_at dksX4_isFree_0 15 rfl rfl)
theorem dX4_isFree_16 : decode cX4_isFree 16 = .ok (.goto 4, 3) := dk_167 0 4 (dk_at dksX4_isFree_0 16 rfl rfl)
theorem dX4_isFree_19 : decode cX4_isFree 19 = .ok (.iconst 0, 1) := dk_3 (dk_at dksX4_isFree_0 19 rfl rfl)
theorem dX4_isFree_20 : decode cX4_isFree 20 = .ok (.ireturn, 1) := dk_172 (dk_at dksX4_isFree_0 20 rfl rfl)
abbrev cX4_price : ByteArray := prog_19_method_76_code
def yX4_price : MethodName := ⟨RX4, "price", "(II)J"⟩
def dkwX4_price_3 : List UInt8 := [182, 1, 48, 45, 28, 182, 1, 48, 101, 173]
abbrev dktX4_price_3 : List UInt8 := dkwX4_price_3 ++ []
def dkwX4_price_2 : List UInt8 := [182, 0, 110, 133, 97, 173, 42, 182, 0, 239, 78, 45, 180, 0, 43, 27, 92, 46, 4, 96, 79, 42, 28]
abbrev dktX4_price_2 : List UInt8 := dkwX4_price_2 ++ dktX4_price_3
def dkwX4_price_1 : List UInt8 := [16, 254, 182, 0, 110, 133, 97, 173, 42, 27, 182, 1, 97, 154, 0, 15, 20, 0, 254, 42, 16, 251]
abbrev dktX4_price_1 : List UInt8 := dkwX4_price_1 ++ dktX4_price_2
def dkwX4_price_0 : List UInt8 := [27, 133, 9, 20, 0, 137, 184, 0, 88, 153, 0, 10, 28, 184, 1, 42, 154, 0, 15, 20, 0, 254, 42]
abbrev dktX4_price_0 : List UInt8 := dkwX4_price_0 ++ dktX4_price_1
theorem dksX4_price_0 : cX4_price.data.toList.drop 0 = dktX4_price_0 := by decide +kernel
theorem dksX4_price_1 : cX4_price.data.toList.drop 23 = dktX4_price_1 := dk_seg dksX4_price_0 23 rfl rfl
theorem dksX4_price_2 : cX4_price.data.toList.drop 45 = dktX4_price_2 := dk_seg dksX4_price_1 22 rfl rfl
theorem dksX4_price_3 : cX4_price.data.toList.drop 68 = dktX4_price_3 := dk_seg dksX4_price_2 23 rfl rfl
theorem dX4_price_0 : decode cX4_price 0 = .ok (.iload_n 1, 1) := dk_27 (dk_at dksX4_price_0 0 rfl rfl)
theorem dX4_price_1 : decode cX4_price 1 = .ok (.i2l, 1) := dk_133 (dk_at dksX4_price_0 1 rfl rfl)
theorem dX4_price_2 : decode cX4_price 2 = .ok (.lconst 0, 1) := dk_9 (dk_at dksX4_price_0 2 rfl rfl)
theorem dX4_price_3 : decode cX4_price 3 = .ok (.ldc2_w 137, 3) := dk_20 0 137 (dk_at dksX4_price_0 3 rfl rfl)
theorem dX4_price_6 : decode cX4_price 6 = .ok (.invokestatic 88, 3) := dk_184 0 88 (dk_at dksX4_price_0 6 rfl rfl)
theorem dX4_price_9 : decode cX4_price 9 = .ok (.ifCond .eq 10, 3) := dk_153 0 10 (dk_at dksX4_price_0 9 rfl rfl)
theorem dX4_price_12 : decode cX4_price 12 = .ok (.iload_n 2, 1) := dk_28 (dk_at dksX4_price_0 12 rfl rfl)
theorem dX4_price_13 : decode cX4_price 13 = .ok (.invokestatic 298, 3) := dk_184 1 42 (dk_at dksX4_price_0 13 rfl rfl)
theorem dX4_price_16 : decode cX4_price 16 = .ok (.ifCond .ne 15, 3) := dk_154 0 15 (dk_at dksX4_price_0 16 rfl rfl)
theorem dX4_price_19 : decode cX4_price 19 = .ok (.ldc2_w 254, 3) := dk_20 0 254 (dk_at dksX4_price_0 19 rfl rfl)
theorem dX4_price_22 : decode cX4_price 22 = .ok (.aload_n 0, 1) := dk_42 (dk_at dksX4_price_0 22 rfl rfl)
theorem dX4_price_23 : decode cX4_price 23 = .ok (.bipush (-2), 2) := dk_16 254 (dk_at dksX4_price_1 0 rfl rfl)
theorem dX4_price_25 : decode cX4_price 25 = .ok (.invokevirtual 110, 3) := dk_182 0 110 (dk_at dksX4_price_1 2 rfl rfl)
theorem dX4_price_28 : decode cX4_price 28 = .ok (.i2l, 1) := dk_133 (dk_at dksX4_price_1 5 rfl rfl)
theorem dX4_price_29 : decode cX4_price 29 = .ok (.ladd, 1) := dk_97 (dk_at dksX4_price_1 6 rfl rfl)
theorem dX4_price_30 : decode cX4_price 30 = .ok (.lreturn, 1) := dk_173 (dk_at dksX4_price_1 7 rfl rfl)
theorem dX4_price_31 : decode cX4_price 31 = .ok (.aload_n 0, 1) := dk_42 (dk_at dksX4_price_1 8 rfl rfl)
theorem dX4_price_32 : decode cX4_price 32 = .ok (.iload_n 1, 1) := dk_27 (dk_at dksX4_price_1 9 rfl rfl)
theorem dX4_price_33 : decode cX4_price 33 = .ok (.invokevirtual 353, 3) := dk_182 1 97 (dk_at dksX4_price_1 10 rfl rfl)
theorem dX4_price_36 : decode cX4_price 36 = .ok (.ifCond .ne 15, 3) := dk_154 0 15 (dk_at dksX4_price_1 13 rfl rfl)
theorem dX4_price_39 : decode cX4_price 39 = .ok (.ldc2_w 254, 3) := dk_20 0 254 (dk_at dksX4_price_1 16 rfl rfl)
theorem dX4_price_42 : decode cX4_price 42 = .ok (.aload_n 0, 1) := dk_42 (dk_at dksX4_price_1 19 rfl rfl)
theorem dX4_price_43 : decode cX4_price 43 = .ok (.bipush (-5), 2) := dk_16 251 (dk_at dksX4_price_1 20 rfl rfl)
theorem dX4_price_45 : decode cX4_price 45 = .ok (.invokevirtual 110, 3) := dk_182 0 110 (dk_at dksX4_price_2 0 rfl rfl)
theorem dX4_price_48 : decode cX4_price 48 = .ok (.i2l, 1) := dk_133 (dk_at dksX4_price_2 3 rfl rfl)
theorem dX4_price_49 : decode cX4_price 49 = .ok (.ladd, 1) := dk_97 (dk_at dksX4_price_2 4 rfl rfl)
theorem dX4_price_50 : decode cX4_price 50 = .ok (.lreturn, 1) := dk_173 (dk_at dksX4_price_2 5 rfl rfl)
theorem dX4_price_51 : decode cX4_price 51 = .ok (.aload_n 0, 1) := dk_42 (dk_at dksX4_price_2 6 rfl rfl)
theorem dX4_price_52 : decode cX4_price 52 = .ok (.invokevirtual 239, 3) := dk_182 0 239 (dk_at dksX4_price_2 7 rfl rfl)
theorem dX4_price_55 : decode cX4_price 55 = .ok (.astore_n 3, 1) := dk_78 (dk_at dksX4_price_2 10 rfl rfl)
theorem dX4_price_56 : decode cX4_price 56 = .ok (.aload_n 3, 1) := dk_45 (dk_at dksX4_price_2 11 rfl rfl)
theorem dX4_price_57 : decode cX4_price 57 = .ok (.getfield 43, 3) := dk_180 0 43 (dk_at dksX4_price_2 12 rfl rfl)
theorem dX4_price_60 : decode cX4_price 60 = .ok (.iload_n 1, 1) := dk_27 (dk_at dksX4_price_2 15 rfl rfl)
theorem dX4_price_61 : decode cX4_price 61 = .ok (.dup2, 1) := dk_92 (dk_at dksX4_price_2 16 rfl rfl)
theorem dX4_price_62 : decode cX4_price 62 = .ok (.iaload, 1) := dk_46 (dk_at dksX4_price_2 17 rfl rfl)
theorem dX4_price_63 : decode cX4_price 63 = .ok (.iconst 1, 1) := dk_4 (dk_at dksX4_price_2 18 rfl rfl)
theorem dX4_price_64 : decode cX4_price 64 = .ok (.iadd, 1) := dk_96 (dk_at dksX4_price_2 19 rfl rfl)
theorem dX4_price_65 : decode cX4_price 65 = .ok (.iastore, 1) := dk_79 (dk_at dksX4_price_2 20 rfl rfl)
theorem dX4_price_66 : decode cX4_price 66 = .ok (.aload_n 0, 1) := dk_42 (dk_at dksX4_price_2 21 rfl rfl)
theorem dX4_price_67 : decode cX4_price 67 = .ok (.iload_n 2, 1) := dk_28 (dk_at dksX4_price_2 22 rfl rfl)
theorem dX4_price_68 : decode cX4_price 68 = .ok (.invokevirtual 304, 3) := dk_182 1 48 (dk_at dksX4_price_3 0 rfl rfl)
theorem dX4_price_71 : decode cX4_price 71 = .ok (.aload_n 3, 1) := dk_45 (dk_at dksX4_price_3 3 rfl rfl)
theorem dX4_price_72 : decode cX4_price 72 = .ok (.iload_n 2, 1) := dk_28 (dk_at dksX4_price_3 4 rfl rfl)
theorem dX4_price_73 : decode cX4_price 73 = .ok (.invokevirtual 304, 3) := dk_182 1 48 (dk_at dksX4_price_3 5 rfl rfl)
theorem dX4_price_76 : decode cX4_price 76 = .ok (.lsub, 1) := dk_101 (dk_at dksX4_price_3 8 rfl rfl)
theorem dX4_price_77 : decode cX4_price 77 = .ok (.lreturn, 1) := dk_173 (dk_at dksX4_price_3 9 rfl rfl)
abbrev cX4_brings : ByteArray := prog_19_method_77_code
def yX4_brings : MethodName := ⟨RX4, "brings", "(II)J"⟩
def dkwX4_brings_2 : List UInt8 := [182, 1, 48, 45, 28, 182, 1, 48, 101, 173]
abbrev dktX4_brings_2 : List UInt8 := dkwX4_brings_2 ++ []
def dkwX4_brings_1 : List UInt8 := [182, 0, 110, 133, 97, 173, 42, 182, 0, 239, 78, 45, 180, 0, 51, 27, 50, 4, 3, 79, 42, 28]
abbrev dktX4_brings_1 : List UInt8 := dkwX4_brings_1 ++ dktX4_brings_2
def dkwX4_brings_0 : List UInt8 := [42, 27, 133, 182, 0, 153, 153, 0, 10, 28, 184, 1, 42, 154, 0, 15, 20, 0, 254, 42, 16, 254]
abbrev dktX4_brings_0 : List UInt8 := dkwX4_brings_0 ++ dktX4_brings_1
theorem dksX4_brings_0 : cX4_brings.data.toList.drop 0 = dktX4_brings_0 := by decide +kernel
theorem dksX4_brings_1 : cX4_brings.data.toList.drop 22 = dktX4_brings_1 := dk_seg dksX4_brings_0 22 rfl rfl
theorem dksX4_brings_2 : cX4_brings.data.toList.drop 44 = dktX4_brings_2 := dk_seg dksX4_brings_1 22 rfl rfl
theorem dX4_brings_0 : decode cX4_brings 0 = .ok (.aload_n 0, 1) := dk_42 (dk_at dksX4_brings_0 0 rfl rfl)
theorem dX4_brings_1 : decode cX4_brings 1 = .ok (.iload_n 1, 1) := dk_27 (dk_at dksX4_brings_0 1 rfl rfl)
theorem dX4_brings_2 : decode cX4_brings 2 = .ok (.i2l, 1) := dk_133 (dk_at dksX4_brings_0 2 rfl rfl)
theorem dX4_brings_3 : decode cX4_brings 3 = .ok (.invokevirtual 153, 3) := dk_182 0 153 (dk_at dksX4_brings_0 3 rfl rfl)
theorem dX4_brings_6 : decode cX4_brings 6 = .ok (.ifCond .eq 10, 3) := dk_153 0 10 (dk_at dksX4_brings_0 6 rfl rfl)
theorem dX4_brings_9 : decode cX4_brings 9 = .ok (.iload_n 2, 1) := dk_28 (dk_at dksX4_brings_0 9 rfl rfl)
theorem dX4_brings_10 : decode cX4_brings 10 = .ok (.invokestatic 298, 3) := dk_184 1 42 (dk_at dksX4_brings_0 10 rfl rfl)
theorem dX4_brings_13 : decode cX4_brings 13 = .ok (.ifCond .ne 15, 3) := dk_154 0 15 (dk_at dksX4_brings_0 13 rfl rfl)
theorem dX4_brings_16 : decode cX4_brings 16 = .ok (.ldc2_w 254, 3) := dk_20 0 254 (dk_at dksX4_brings_0 16 rfl rfl)
theorem dX4_brings_19 : decode cX4_brings 19 = .ok (.aload_n 0, 1) := dk_42 (dk_at dksX4_brings_0 19 rfl rfl)
theorem dX4_brings_20 : decode cX4_brings 20 = .ok (.bipush (-2), 2) := dk_16 254 (dk_at dksX4_brings_0 20 rfl rfl)
theorem dX4_brings_22 : decode cX4_brings 22 = .ok (.invokevirtual 110, 3) := dk_182 0 110 (dk_at dksX4_brings_1 0 rfl rfl)
theorem dX4_brings_25 : decode cX4_brings 25 = .ok (.i2l, 1) := dk_133 (dk_at dksX4_brings_1 3 rfl rfl)
theorem dX4_brings_26 : decode cX4_brings 26 = .ok (.ladd, 1) := dk_97 (dk_at dksX4_brings_1 4 rfl rfl)
theorem dX4_brings_27 : decode cX4_brings 27 = .ok (.lreturn, 1) := dk_173 (dk_at dksX4_brings_1 5 rfl rfl)
theorem dX4_brings_28 : decode cX4_brings 28 = .ok (.aload_n 0, 1) := dk_42 (dk_at dksX4_brings_1 6 rfl rfl)
theorem dX4_brings_29 : decode cX4_brings 29 = .ok (.invokevirtual 239, 3) := dk_182 0 239 (dk_at dksX4_brings_1 7 rfl rfl)
theorem dX4_brings_32 : decode cX4_brings 32 = .ok (.astore_n 3, 1) := dk_78 (dk_at dksX4_brings_1 10 rfl rfl)
theorem dX4_brings_33 : decode cX4_brings 33 = .ok (.aload_n 3, 1) := dk_45 (dk_at dksX4_brings_1 11 rfl rfl)
theorem dX4_brings_34 : decode cX4_brings 34 = .ok (.getfield 51, 3) := dk_180 0 51 (dk_at dksX4_brings_1 12 rfl rfl)
theorem dX4_brings_37 : decode cX4_brings 37 = .ok (.iload_n 1, 1) := dk_27 (dk_at dksX4_brings_1 15 rfl rfl)
theorem dX4_brings_38 : decode cX4_brings 38 = .ok (.aaload, 1) := dk_50 (dk_at dksX4_brings_1 16 rfl rfl)
theorem dX4_brings_39 : decode cX4_brings 39 = .ok (.iconst 1, 1) := dk_4 (dk_at dksX4_brings_1 17 rfl rfl)
theorem dX4_brings_40 : decode cX4_brings 40 = .ok (.iconst 0, 1) := dk_3 (dk_at dksX4_brings_1 18 rfl rfl)
theorem dX4_brings_41 : decode cX4_brings 41 = .ok (.iastore, 1) := dk_79 (dk_at dksX4_brings_1 19 rfl rfl)
theorem dX4_brings_42 : decode cX4_brings 42 = .ok (.aload_n 0, 1) := dk_42 (dk_at dksX4_brings_1 20 rfl rfl)
theorem dX4_brings_43 : decode cX4_brings 43 = .ok (.iload_n 2, 1) := dk_28 (dk_at dksX4_brings_1 21 rfl rfl)
theorem dX4_brings_44 : decode cX4_brings 44 = .ok (.invokevirtual 304, 3) := dk_182 1 48 (dk_at dksX4_brings_2 0 rfl rfl)
theorem dX4_brings_47 : decode cX4_brings 47 = .ok (.aload_n 3, 1) := dk_45 (dk_at dksX4_brings_2 3 rfl rfl)
theorem dX4_brings_48 : decode cX4_brings 48 = .ok (.iload_n 2, 1) := dk_28 (dk_at dksX4_brings_2 4 rfl rfl)
theorem dX4_brings_49 : decode cX4_brings 49 = .ok (.invokevirtual 304, 3) := dk_182 1 48 (dk_at dksX4_brings_2 5 rfl rfl)
theorem dX4_brings_52 : decode cX4_brings 52 = .ok (.lsub, 1) := dk_101 (dk_at dksX4_brings_2 8 rfl rfl)
theorem dX4_brings_53 : decode cX4_brings 53 = .ok (.lreturn, 1) := dk_173 (dk_at dksX4_brings_2 9 rfl rfl)
abbrev cX4_fits : ByteArray := prog_19_method_78_code
def yX4_fits : MethodName := ⟨RX4, "fits", "(I)I"⟩
def dkwX4_fits_2 : List UInt8 := [128, 61, 132, 3, 1, 167, 255, 225, 28, 172]
abbrev dktX4_fits_2 : List UInt8 := dkwX4_fits_2 ++ []
def dkwX4_fits_1 : List UInt8 := [162, 0, 32, 28, 42, 27, 42, 182, 0, 129, 29, 182, 1, 0, 153, 0, 9, 4, 29, 120, 167, 0, 4, 3]
abbrev dktX4_fits_1 : List UInt8 := dkwX4_fits_1 ++ dktX4_fits_2
def dkwX4_fits_0 : List UInt8 := [42, 27, 133, 182, 0, 153, 154, 0, 10, 42, 16, 254, 182, 0, 110, 172, 3, 61, 3, 62, 29, 6]
abbrev dktX4_fits_0 : List UInt8 := dkwX4_fits_0 ++ dktX4_fits_1
theorem dksX4_fits_0 : cX4_fits.data.toList.drop 0 = dktX4_fits_0 := by decide +kernel
theorem dksX4_fits_1 : cX4_fits.data.toList.drop 22 = dktX4_fits_1 := dk_seg dksX4_fits_0 22 rfl rfl
theorem dksX4_fits_2 : cX4_fits.data.toList.drop 46 = dktX4_fits_2 := dk_seg dksX4_fits_1 24 rfl rfl
theorem dX4_fits_0 : decode cX4_fits 0 = .ok (.aload_n 0, 1) := dk_42 (dk_at dksX4_fits_0 0 rfl rfl)
theorem dX4_fits_1 : decode cX4_fits 1 = .ok (.iload_n 1, 1) := dk_27 (dk_at dksX4_fits_0 1 rfl rfl)
theorem dX4_fits_2 : decode cX4_fits 2 = .ok (.i2l, 1) := dk_133 (dk_at dksX4_fits_0 2 rfl rfl)
theorem dX4_fits_3 : decode cX4_fits 3 = .ok (.invokevirtual 153, 3) := dk_182 0 153 (dk_at dksX4_fits_0 3 rfl rfl)
theorem dX4_fits_6 : decode cX4_fits 6 = .ok (.ifCond .ne 10, 3) := dk_154 0 10 (dk_at dksX4_fits_0 6 rfl rfl)
theorem dX4_fits_9 : decode cX4_fits 9 = .ok (.aload_n 0, 1) := dk_42 (dk_at dksX4_fits_0 9 rfl rfl)
theorem dX4_fits_10 : decode cX4_fits 10 = .ok (.bipush (-2), 2) := dk_16 254 (dk_at dksX4_fits_0 10 rfl rfl)
theorem dX4_fits_12 : decode cX4_fits 12 = .ok (.invokevirtual 110, 3) := dk_182 0 110 (dk_at dksX4_fits_0 12 rfl rfl)
theorem dX4_fits_15 : decode cX4_fits 15 = .ok (.ireturn, 1) := dk_172 (dk_at dksX4_fits_0 15 rfl rfl)
theorem dX4_fits_16 : decode cX4_fits 16 = .ok (.iconst 0, 1) := dk_3 (dk_at dksX4_fits_0 16 rfl rfl)
theorem dX4_fits_17 : decode cX4_fits 17 = .ok (.istore_n 2, 1) := dk_61 (dk_at dksX4_fits_0 17 rfl rfl)
theorem dX4_fits_18 : decode cX4_fits 18 = .ok (.iconst 0, 1) := dk_3 (dk_at dksX4_fits_0 18 rfl rfl)
theorem dX4_fits_19 : decode cX4_fits 19 = .ok (.istore_n 3, 1) := dk_62 (dk_at dksX4_fits_0 19 rfl rfl)
theorem dX4_fits_20 : decode cX4_fits 20 = .ok (.iload_n 3, 1) := dk_29 (dk_at dksX4_fits_0 20 rfl rfl)
theorem dX4_fits_21 : decode cX4_fits 21 = .ok (.iconst 3, 1) := dk_6 (dk_at dksX4_fits_0 21 rfl rfl)
theorem dX4_fits_22 : decode cX4_fits 22 = .ok (.if_icmp .ge 32, 3) := dk_162 0 32 (dk_at dksX4_fits_1 0 rfl rfl)
theorem dX4_fits_25 : decode cX4_fits 25 = .ok (.iload_n 2, 1) := dk_28 (dk_at dksX4_fits_1 3 rfl rfl)
theorem dX4_fits_26 : decode cX4_fits 26 = .ok (.aload_n 0, 1) := dk_42 (dk_at dksX4_fits_1 4 rfl rfl)
theorem dX4_fits_27 : decode cX4_fits 27 = .ok (.iload_n 1, 1) := dk_27 (dk_at dksX4_fits_1 5 rfl rfl)
theorem dX4_fits_28 : decode cX4_fits 28 = .ok (.aload_n 0, 1) := dk_42 (dk_at dksX4_fits_1 6 rfl rfl)
theorem dX4_fits_29 : decode cX4_fits 29 = .ok (.invokevirtual 129, 3) := dk_182 0 129 (dk_at dksX4_fits_1 7 rfl rfl)
theorem dX4_fits_32 : decode cX4_fits 32 = .ok (.iload_n 3, 1) := dk_29 (dk_at dksX4_fits_1 10 rfl rfl)
theorem dX4_fits_33 : decode cX4_fits 33 = .ok (.invokevirtual 256, 3) := dk_182 1 0 (dk_at dksX4_fits_1 11 rfl rfl)
theorem dX4_fits_36 : decode cX4_fits 36 = .ok (.ifCond .eq 9, 3) := dk_153 0 9 (dk_at dksX4_fits_1 14 rfl rfl)
theorem dX4_fits_39 : decode cX4_fits 39 = .ok (.iconst 1, 1) := dk_4 (dk_at dksX4_fits_1 17 rfl rfl)
theorem dX4_fits_40 : decode cX4_fits 40 = .ok (.iload_n 3, 1) := dk_29 (dk_at dksX4_fits_1 18 rfl rfl)
theorem dX4_fits_41 : decode cX4_fits 41 = .ok (.ishl, 1) := dk_120 (dk_at dksX4_fits_1 19 rfl rfl)
theorem dX4_fits_42 : decode cX4_fits 42 = .ok (.goto 4, 3) := dk_167 0 4 (dk_at dksX4_fits_1 20 rfl rfl)
theorem dX4_fits_45 : decode cX4_fits 45 = .ok (.iconst 0, 1) := dk_3 (dk_at dksX4_fits_1 23 rfl rfl)
theorem dX4_fits_46 : decode cX4_fits 46 = .ok (.ior, 1) := dk_128 (dk_at dksX4_fits_2 0 rfl rfl)
theorem dX4_fits_47 : decode cX4_fits 47 = .ok (.istore_n 2, 1) := dk_61 (dk_at dksX4_fits_2 1 rfl rfl)
theorem dX4_fits_48 : decode cX4_fits 48 = .ok (.iinc 3 1, 3) := dk_132 3 1 (dk_at dksX4_fits_2 2 rfl rfl)
theorem dX4_fits_51 : decode cX4_fits 51 = .ok (.goto (-31), 3) := dk_167 255 225 (dk_at dksX4_fits_2 5 rfl rfl)
theorem dX4_fits_54 : decode cX4_fits 54 = .ok (.iload_n 2, 1) := dk_28 (dk_at dksX4_fits_2 8 rfl rfl)
theorem dX4_fits_55 : decode cX4_fits 55 = .ok (.ireturn, 1) := dk_172 (dk_at dksX4_fits_2 9 rfl rfl)
abbrev cX4_worst : ByteArray := prog_19_method_79_code
def yX4_worst : MethodName := ⟨RX4, "worst", "(I)I"⟩
def dkwX4_worst_3 : List UInt8 := [167, 255, 212, 28, 172]
abbrev dktX4_worst_3 : List UInt8 := dkwX4_worst_3 ++ []
def dkwX4_worst_2 : List UInt8 := [180, 0, 70, 27, 50, 29, 47, 42, 180, 0, 70, 27, 50, 28, 47, 148, 156, 0, 5, 29, 61, 132, 3, 1]
abbrev dktX4_worst_2 : List UInt8 := dkwX4_worst_2 ++ dktX4_worst_3
def dkwX4_worst_1 : List UInt8 := [3, 62, 29, 16, 125, 162, 0, 44, 42, 29, 182, 1, 13, 153, 0, 30, 28, 2, 159, 0, 23, 42]
abbrev dktX4_worst_1 : List UInt8 := dkwX4_worst_1 ++ dktX4_worst_2
def dkwX4_worst_0 : List UInt8 := [27, 184, 1, 42, 154, 0, 10, 42, 16, 254, 182, 0, 110, 172, 42, 27, 3, 3, 2, 182, 1, 9, 2, 61]
abbrev dktX4_worst_0 : List UInt8 := dkwX4_worst_0 ++ dktX4_worst_1
theorem dksX4_worst_0 : cX4_worst.data.toList.drop 0 = dktX4_worst_0 := by decide +kernel
theorem dksX4_worst_1 : cX4_worst.data.toList.drop 24 = dktX4_worst_1 := dk_seg dksX4_worst_0 24 rfl rfl
theorem dksX4_worst_2 : cX4_worst.data.toList.drop 46 = dktX4_worst_2 := dk_seg dksX4_worst_1 22 rfl rfl
theorem dksX4_worst_3 : cX4_worst.data.toList.drop 70 = dktX4_worst_3 := dk_seg dksX4_worst_2 24 rfl rfl
theorem dX4_worst_0 : decode cX4_worst 0 = .ok (.iload_n 1, 1) := dk_27 (dk_at dksX4_worst_0 0 rfl rfl)
theorem dX4_worst_1 : decode cX4_worst 1 = .ok (.invokestatic 298, 3) := dk_184 1 42 (dk_at dksX4_worst_0 1 rfl rfl)
theorem dX4_worst_4 : decode cX4_worst 4 = .ok (.ifCond .ne 10, 3) := dk_154 0 10 (dk_at dksX4_worst_0 4 rfl rfl)
theorem dX4_worst_7 : decode cX4_worst 7 = .ok (.aload_n 0, 1) := dk_42 (dk_at dksX4_worst_0 7 rfl rfl)
theorem dX4_worst_8 : decode cX4_worst 8 = .ok (.bipush (-2), 2) := dk_16 254 (dk_at dksX4_worst_0 8 rfl rfl)
theorem dX4_worst_10 : decode cX4_worst 10 = .ok (.invokevirtual 110, 3) := dk_182 0 110 (dk_at dksX4_worst_0 10 rfl rfl)
theorem dX4_worst_13 : decode cX4_worst 13 = .ok (.ireturn, 1) := dk_172 (dk_at dksX4_worst_0 13 rfl rfl)
theorem dX4_worst_14 : decode cX4_worst 14 = .ok (.aload_n 0, 1) := dk_42 (dk_at dksX4_worst_0 14 rfl rfl)
theorem dX4_worst_15 : decode cX4_worst 15 = .ok (.iload_n 1, 1) := dk_27 (dk_at dksX4_worst_0 15 rfl rfl)
theorem dX4_worst_16 : decode cX4_worst 16 = .ok (.iconst 0, 1) := dk_3 (dk_at dksX4_worst_0 16 rfl rfl)
theorem dX4_worst_17 : decode cX4_worst 17 = .ok (.iconst 0, 1) := dk_3 (dk_at dksX4_worst_0 17 rfl rfl)
theorem dX4_worst_18 : decode cX4_worst 18 = .ok (.iconst (-1), 1) := dk_2 (dk_at dksX4_worst_0 18 rfl rfl)
theorem dX4_worst_19 : decode cX4_worst 19 = .ok (.invokevirtual 265, 3) := dk_182 1 9 (dk_at dksX4_worst_0 19 rfl rfl)
theorem dX4_worst_22 : decode cX4_worst 22 = .ok (.iconst (-1), 1) := dk_2 (dk_at dksX4_worst_0 22 rfl rfl)
theorem dX4_worst_23 : decode cX4_worst 23 = .ok (.istore_n 2, 1) := dk_61 (dk_at dksX4_worst_0 23 rfl rfl)
theorem dX4_worst_24 : decode cX4_worst 24 = .ok (.iconst 0, 1) := dk_3 (dk_at dksX4_worst_1 0 rfl rfl)
theorem dX4_worst_25 : decode cX4_worst 25 = .ok (.istore_n 3, 1) := dk_62 (dk_at dksX4_worst_1 1 rfl rfl)
theorem dX4_worst_26 : decode cX4_worst 26 = .ok (.iload_n 3, 1) := dk_29 (dk_at dksX4_worst_1 2 rfl rfl)
theorem dX4_worst_27 : decode cX4_worst 27 = .ok (.bipush 125, 2) := dk_16 125 (dk_at dksX4_worst_1 3 rfl rfl)
theorem dX4_worst_29 : decode cX4_worst 29 = .ok (.if_icmp .ge 44, 3) := dk_162 0 44 (dk_at dksX4_worst_1 5 rfl rfl)
theorem dX4_worst_32 : decode cX4_worst 32 = .ok (.aload_n 0, 1) := dk_42 (dk_at dksX4_worst_1 8 rfl rfl)
theorem dX4_worst_33 : decode cX4_worst 33 = .ok (.iload_n 3, 1) := dk_29 (dk_at dksX4_worst_1 9 rfl rfl)
theorem dX4_worst_34 : decode cX4_worst 34 = .ok (.invokevirtual 269, 3) := dk_182 1 13 (dk_at dksX4_worst_1 10 rfl rfl)
theorem dX4_worst_37 : decode cX4_worst 37 = .ok (.ifCond .eq 30, 3) := dk_153 0 30 (dk_at dksX4_worst_1 13 rfl rfl)
theorem dX4_worst_40 : decode cX4_worst 40 = .ok (.iload_n 2, 1) := dk_28 (dk_at dksX4_worst_1 16 rfl rfl)
theorem dX4_worst_41 : decode cX4_worst 41 = .ok (.iconst (-1), 1) := dk_2 (dk_at dksX4_worst_1 17 rfl rfl)
theorem dX4_worst_42 : decode cX4_worst 42 = .ok (.if_icmp .eq 23, 3) := dk_159 0 23 (dk_at dksX4_worst_1 18 rfl rfl)
theorem dX4_worst_45 : decode cX4_worst 45 = .ok (.aload_n 0, 1) := dk_42 (dk_at dksX4_worst_1 21 rfl rfl)
theorem dX4_worst_46 : decode cX4_worst 46 = .ok (.getfield 70, 3) := dk_180 0 70 (dk_at dksX4_worst_2 0 rfl rfl)
theorem dX4_worst_49 : decode cX4_worst 49 = .ok (.iload_n 1, 1) := dk_27 (dk_at dksX4_worst_2 3 rfl rfl)
theorem dX4_worst_50 : decode cX4_worst 50 = .ok (.aaload, 1) := dk_50 (dk_at dksX4_worst_2 4 rfl rfl)
theorem dX4_worst_51 : decode cX4_worst 51 = .ok (.iload_n 3, 1) := dk_29 (dk_at dksX4_worst_2 5 rfl rfl)
theorem dX4_worst_52 : decode cX4_worst 52 = .ok (.laload, 1) := dk_47 (dk_at dksX4_worst_2 6 rfl rfl)
theorem dX4_worst_53 : decode cX4_worst 53 = .ok (.aload_n 0, 1) := dk_42 (dk_at dksX4_worst_2 7 rfl rfl)
theorem dX4_worst_54 : decode cX4_worst 54 = .ok (.getfield 70, 3) := dk_180 0 70 (dk_at dksX4_worst_2 8 rfl rfl)
theorem dX4_worst_57 : decode cX4_worst 57 = .ok (.iload_n 1, 1) := dk_27 (dk_at dksX4_worst_2 11 rfl rfl)
theorem dX4_worst_58 : decode cX4_worst 58 = .ok (.aaload, 1) := dk_50 (dk_at dksX4_worst_2 12 rfl rfl)
theorem dX4_worst_59 : decode cX4_worst 59 = .ok (.iload_n 2, 1) := dk_28 (dk_at dksX4_worst_2 13 rfl rfl)
theorem dX4_worst_60 : decode cX4_worst 60 = .ok (.laload, 1) := dk_47 (dk_at dksX4_worst_2 14 rfl rfl)
theorem dX4_worst_61 : decode cX4_worst 61 = .ok (.lcmp, 1) := dk_148 (dk_at dksX4_worst_2 15 rfl rfl)
theorem dX4_worst_62 : decode cX4_worst 62 = .ok (.ifCond .ge 5, 3) := dk_156 0 5 (dk_at dksX4_worst_2 16 rfl rfl)
theorem dX4_worst_65 : decode cX4_worst 65 = .ok (.iload_n 3, 1) := dk_29 (dk_at dksX4_worst_2 19 rfl rfl)
theorem dX4_worst_66 : decode cX4_worst 66 = .ok (.istore_n 2, 1) := dk_61 (dk_at dksX4_worst_2 20 rfl rfl)
theorem dX4_worst_67 : decode cX4_worst 67 = .ok (.iinc 3 1, 3) := dk_132 3 1 (dk_at dksX4_worst_2 21 rfl rfl)
theorem dX4_worst_70 : decode cX4_worst 70 = .ok (.goto (-44), 3) := dk_167 255 212 (dk_at dksX4_worst_3 0 rfl rfl)
theorem dX4_worst_73 : decode cX4_worst 73 = .ok (.iload_n 2, 1) := dk_28 (dk_at dksX4_worst_3 3 rfl rfl)
theorem dX4_worst_74 : decode cX4_worst 74 = .ok (.ireturn, 1) := dk_172 (dk_at dksX4_worst_3 4 rfl rfl)
abbrev cX4_board : ByteArray := prog_19_method_80_code
def yX4_board : MethodName := ⟨RX4, "board", "(I)J"⟩
def dkwX4_board_3 : List UInt8 := [167, 0, 11, 42, 180, 0, 40, 3, 46, 6, 96, 79, 44, 27, 182, 1, 48, 42, 27, 182, 1, 48, 101, 173]
abbrev dktX4_board_3 : List UInt8 := dkwX4_board_3 ++ []
def dkwX4_board_2 : List UInt8 := [5, 92, 46, 4, 100, 79, 44, 180, 0, 40, 3, 42, 180, 0, 40, 3, 46, 4, 164, 0, 7, 7]
abbrev dktX4_board_2 : List UInt8 := dkwX4_board_2 ++ dktX4_board_3
def dkwX4_board_1 : List UInt8 := [154, 0, 15, 20, 0, 254, 42, 16, 251, 182, 0, 110, 133, 97, 173, 42, 182, 0, 239, 77, 44, 180, 0, 40]
abbrev dktX4_board_1 : List UInt8 := dkwX4_board_1 ++ dktX4_board_2
def dkwX4_board_0 : List UInt8 := [27, 184, 1, 42, 154, 0, 15, 20, 0, 254, 42, 16, 254, 182, 0, 110, 133, 97, 173, 42, 5, 182, 1, 97]
abbrev dktX4_board_0 : List UInt8 := dkwX4_board_0 ++ dktX4_board_1
theorem dksX4_board_0 : cX4_board.data.toList.drop 0 = dktX4_board_0 := by decide +kernel
theorem dksX4_board_1 : cX4_board.data.toList.drop 24 = dktX4_board_1 := dk_seg dksX4_board_0 24 rfl rfl
theorem dksX4_board_2 : cX4_board.data.toList.drop 48 = dktX4_board_2 := dk_seg dksX4_board_1 24 rfl rfl
theorem dksX4_board_3 : cX4_board.data.toList.drop 70 = dktX4_board_3 := dk_seg dksX4_board_2 22 rfl rfl
theorem dX4_board_0 : decode cX4_board 0 = .ok (.iload_n 1, 1) := dk_27 (dk_at dksX4_board_0 0 rfl rfl)
theorem dX4_board_1 : decode cX4_board 1 = .ok (.invokestatic 298, 3) := dk_184 1 42 (dk_at dksX4_board_0 1 rfl rfl)
theorem dX4_board_4 : decode cX4_board 4 = .ok (.ifCond .ne 15, 3) := dk_154 0 15 (dk_at dksX4_board_0 4 rfl rfl)
theorem dX4_board_7 : decode cX4_board 7 = .ok (.ldc2_w 254, 3) := dk_20 0 254 (dk_at dksX4_board_0 7 rfl rfl)
theorem dX4_board_10 : decode cX4_board 10 = .ok (.aload_n 0, 1) := dk_42 (dk_at dksX4_board_0 10 rfl rfl)
theorem dX4_board_11 : decode cX4_board 11 = .ok (.bipush (-2), 2) := dk_16 254 (dk_at dksX4_board_0 11 rfl rfl)
theorem dX4_board_13 : decode cX4_board 13 = .ok (.invokevirtual 110, 3) := dk_182 0 110 (dk_at dksX4_board_0 13 rfl rfl)
theorem dX4_board_16 : decode cX4_board 16 = .ok (.i2l, 1) := dk_133 (dk_at dksX4_board_0 16 rfl rfl)
theorem dX4_board_17 : decode cX4_board 17 = .ok (.ladd, 1) := dk_97 (dk_at dksX4_board_0 17 rfl rfl)
theorem dX4_board_18 : decode cX4_board 18 = .ok (.lreturn, 1) := dk_173 (dk_at dksX4_board_0 18 rfl rfl)
theorem dX4_board_19 : decode cX4_board 19 = .ok (.aload_n 0, 1) := dk_42 (dk_at dksX4_board_0 19 rfl rfl)
theorem dX4_board_20 : decode cX4_board 20 = .ok (.iconst 2, 1) := dk_5 (dk_at dksX4_board_0 20 rfl rfl)
theorem dX4_board_21 : decode cX4_board 21 = .ok (.invokevirtual 353, 3) := dk_182 1 97 (dk_at dksX4_board_0 21 rfl rfl)
theorem dX4_board_24 : decode cX4_board 24 = .ok (.ifCond .ne 15, 3) := dk_154 0 15 (dk_at dksX4_board_1 0 rfl rfl)
theorem dX4_board_27 : decode cX4_board 27 = .ok (.ldc2_w 254, 3) := dk_20 0 254 (dk_at dksX4_board_1 3 rfl rfl)
theorem dX4_board_30 : decode cX4_board 30 = .ok (.aload_n 0, 1) := dk_42 (dk_at dksX4_board_1 6 rfl rfl)
theorem dX4_board_31 : decode cX4_board 31 = .ok (.bipush (-5), 2) := dk_16 251 (dk_at dksX4_board_1 7 rfl rfl)
theorem dX4_board_33 : decode cX4_board 33 = .ok (.invokevirtual 110, 3) := dk_182 0 110 (dk_at dksX4_board_1 9 rfl rfl)
theorem dX4_board_36 : decode cX4_board 36 = .ok (.i2l, 1) := dk_133 (dk_at dksX4_board_1 12 rfl rfl)
theorem dX4_board_37 : decode cX4_board 37 = .ok (.ladd, 1) := dk_97 (dk_at dksX4_board_1 13 rfl rfl)
theorem dX4_board_38 : decode cX4_board 38 = .ok (.lreturn, 1) := dk_173 (dk_at dksX4_board_1 14 rfl rfl)
theorem dX4_board_39 : decode cX4_board 39 = .ok (.aload_n 0, 1) := dk_42 (dk_at dksX4_board_1 15 rfl rfl)
theorem dX4_board_40 : decode cX4_board 40 = .ok (.invokevirtual 239, 3) := dk_182 0 239 (dk_at dksX4_board_1 16 rfl rfl)
theorem dX4_board_43 : decode cX4_board 43 = .ok (.astore_n 2, 1) := dk_77 (dk_at dksX4_board_1 19 rfl rfl)
theorem dX4_board_44 : decode cX4_board 44 = .ok (.aload_n 2, 1) := dk_44 (dk_at dksX4_board_1 20 rfl rfl)
theorem dX4_board_45 : decode cX4_board 45 = .ok (.getfield 40, 3) := dk_180 0 40 (dk_at dksX4_board_1 21 rfl rfl)
theorem dX4_board_48 : decode cX4_board 48 = .ok (.iconst 2, 1) := dk_5 (dk_at dksX4_board_2 0 rfl rfl)
theorem dX4_board_49 : decode cX4_board 49 = .ok (.dup2, 1) := dk_92 (dk_at dksX4_board_2 1 rfl rfl)
theorem dX4_board_50 : decode cX4_board 50 = .ok (.iaload, 1) := dk_46 (dk_at dksX4_board_2 2 rfl rfl)
theorem dX4_board_51 : decode cX4_board 51 = .ok (.iconst 1, 1) := dk_4 (dk_at dksX4_board_2 3 rfl rfl)
theorem dX4_board_52 : decode cX4_board 52 = .ok (.isub, 1) := dk_100 (dk_at dksX4_board_2 4 rfl rfl)
theorem dX4_board_53 : decode cX4_board 53 = .ok (.iastore, 1) := dk_79 (dk_at dksX4_board_2 5 rfl rfl)
theorem dX4_board_54 : decode cX4_board 54 = .ok (.aload_n 2, 1) := dk_44 (dk_at dksX4_board_2 6 rfl rfl)
theorem dX4_board_55 : decode cX4_board 55 = .ok (.getfield 40, 3) := dk_180 0 40 (dk_at dksX4_board_2 7 rfl rfl)
theorem dX4_board_58 : decode cX4_board 58 = .ok (.iconst 0, 1) := dk_3 (dk_at dksX4_board_2 10 rfl rfl)
theorem dX4_board_59 : decode cX4_board 59 = .ok (.aload_n 0, 1) := dk_42 (dk_at dksX4_board_2 11 rfl rfl)
theorem dX4_board_60 : decode cX4_board 60 = .ok (.getfield 40, 3) := dk_180 0 40 (dk_at dksX4_board_2 12 rfl rfl)
theorem dX4_board_63 : decode cX4_board 63 = .ok (.iconst 0, 1) := dk_3 (dk_at dksX4_board_2 15 rfl rfl)
theorem dX4_board_64 : decode cX4_board 64 = .ok (.iaload, 1) := dk_46 (dk_at dksX4_board_2 16 rfl rfl)
theorem dX4_board_65 : decode cX4_board 65 = .ok (.iconst 1, 1) := dk_4 (dk_at dksX4_board_2 17 rfl rfl)
theorem dX4_board_66 : decode cX4_board 66 = .ok (.if_icmp .le 7, 3) := dk_164 0 7 (dk_at dksX4_board_2 18 rfl rfl)
theorem dX4_board_69 : decode cX4_board 69 = .ok (.iconst 4, 1) := dk_7 (dk_at dksX4_board_2 21 rfl rfl)
theorem dX4_board_70 : decode cX4_board 70 = .ok (.goto 11, 3) := dk_167 0 11 (dk_at dksX4_board_3 0 rfl rfl)
theorem dX4_board_73 : decode cX4_board 73 = .ok (.aload_n 0, 1) := dk_42 (dk_at dksX4_board_3 3 rfl rfl)
theorem dX4_board_74 : decode cX4_board 74 = .ok (.getfield 40, 3) := dk_180 0 40 (dk_at dksX4_board_3 4 rfl rfl)
theorem dX4_board_77 : decode cX4_board 77 = .ok (.iconst 0, 1) := dk_3 (dk_at dksX4_board_3 7 rfl rfl)
theorem dX4_board_78 : decode cX4_board 78 = .ok (.iaload, 1) := dk_46 (dk_at dksX4_board_3 8 rfl rfl)
theorem dX4_board_79 : decode cX4_board 79 = .ok (.iconst 3, 1) := dk_6 (dk_at dksX4_board_3 9 rfl rfl)
theorem dX4_board_80 : decode cX4_board 80 = .ok (.iadd, 1) := dk_96 (dk_at dksX4_board_3 10 rfl rfl)
theorem dX4_board_81 : decode cX4_board 81 = .ok (.iastore, 1) := dk_79 (dk_at dksX4_board_3 11 rfl rfl)
theorem dX4_board_82 : decode cX4_board 82 = .ok (.aload_n 2, 1) := dk_44 (dk_at dksX4_board_3 12 rfl rfl)
theorem dX4_board_83 : decode cX4_board 83 = .ok (.iload_n 1, 1) := dk_27 (dk_at dksX4_board_3 13 rfl rfl)
theorem dX4_board_84 : decode cX4_board 84 = .ok (.invokevirtual 304, 3) := dk_182 1 48 (dk_at dksX4_board_3 14 rfl rfl)
theorem dX4_board_87 : decode cX4_board 87 = .ok (.aload_n 0, 1) := dk_42 (dk_at dksX4_board_3 17 rfl rfl)
theorem dX4_board_88 : decode cX4_board 88 = .ok (.iload_n 1, 1) := dk_27 (dk_at dksX4_board_3 18 rfl rfl)
theorem dX4_board_89 : decode cX4_board 89 = .ok (.invokevirtual 304, 3) := dk_182 1 48 (dk_at dksX4_board_3 19 rfl rfl)
theorem dX4_board_92 : decode cX4_board 92 = .ok (.lsub, 1) := dk_101 (dk_at dksX4_board_3 22 rfl rfl)
theorem dX4_board_93 : decode cX4_board 93 = .ok (.lreturn, 1) := dk_173 (dk_at dksX4_board_3 23 rfl rfl)
abbrev cX4_letter : ByteArray := prog_19_method_82_code
def yX4_letter : MethodName := ⟨RX4, "letter", "(II)J"⟩
def dkwX4_letter_1 : List UInt8 := [42, 27, 28, 182, 1, 100, 167, 0, 14, 20, 0, 254, 42, 16, 254, 182, 0, 110, 133, 97, 173]
abbrev dktX4_letter_1 : List UInt8 := dkwX4_letter_1 ++ []
def dkwX4_letter_0 : List UInt8 := [27, 133, 9, 20, 0, 137, 184, 0, 88, 153, 0, 24, 28, 133, 10, 20, 0, 92, 184, 0, 88, 153, 0, 12]
abbrev dktX4_letter_0 : List UInt8 := dkwX4_letter_0 ++ dktX4_letter_1
theorem dksX4_letter_0 : cX4_letter.data.toList.drop 0 = dktX4_letter_0 := by decide +kernel
theorem dksX4_letter_1 : cX4_letter.data.toList.drop 24 = dktX4_letter_1 := dk_seg dksX4_letter_0 24 rfl rfl
theorem dX4_letter_0 : decode cX4_letter 0 = .ok (.iload_n 1, 1) := dk_27 (dk_at dksX4_letter_0 0 rfl rfl)
theorem dX4_letter_1 : decode cX4_letter 1 = .ok (.i2l, 1) := dk_133 (dk_at dksX4_letter_0 1 rfl rfl)
theorem dX4_letter_2 : decode cX4_letter 2 = .ok (.lconst 0, 1) := dk_9 (dk_at dksX4_letter_0 2 rfl rfl)
theorem dX4_letter_3 : decode cX4_letter 3 = .ok (.ldc2_w 137, 3) := dk_20 0 137 (dk_at dksX4_letter_0 3 rfl rfl)
theorem dX4_letter_6 : decode cX4_letter 6 = .ok (.invokestatic 88, 3) := dk_184 0 88 (dk_at dksX4_letter_0 6 rfl rfl)
theorem dX4_letter_9 : decode cX4_letter 9 = .ok (.ifCond .eq 24, 3) := dk_153 0 24 (dk_at dksX4_letter_0 9 rfl rfl)
theorem dX4_letter_12 : decode cX4_letter 12 = .ok (.iload_n 2, 1) := dk_28 (dk_at dksX4_letter_0 12 rfl rfl)
theorem dX4_letter_13 : decode cX4_letter 13 = .ok (.i2l, 1) := dk_133 (dk_at dksX4_letter_0 13 rfl rfl)
theorem dX4_letter_14 : decode cX4_letter 14 = .ok (.lconst 1, 1) := dk_10 (dk_at dksX4_letter_0 14 rfl rfl)
theorem dX4_letter_15 : decode cX4_letter 15 = .ok (.ldc2_w 92, 3) := dk_20 0 92 (dk_at dksX4_letter_0 15 rfl rfl)
theorem dX4_letter_18 : decode cX4_letter 18 = .ok (.invokestatic 88, 3) := dk_184 0 88 (dk_at dksX4_letter_0 18 rfl rfl)
theorem dX4_letter_21 : decode cX4_letter 21 = .ok (.ifCond .eq 12, 3) := dk_153 0 12 (dk_at dksX4_letter_0 21 rfl rfl)
theorem dX4_letter_24 : decode cX4_letter 24 = .ok (.aload_n 0, 1) := dk_42 (dk_at dksX4_letter_1 0 rfl rfl)
theorem dX4_letter_25 : decode cX4_letter 25 = .ok (.iload_n 1, 1) := dk_27 (dk_at dksX4_letter_1 1 rfl rfl)
theorem dX4_letter_26 : decode cX4_letter 26 = .ok (.iload_n 2, 1) := dk_28 (dk_at dksX4_letter_1 2 rfl rfl)
theorem dX4_letter_27 : decode cX4_letter 27 = .ok (.invokevirtual 356, 3) := dk_182 1 100 (dk_at dksX4_letter_1 3 rfl rfl)
theorem dX4_letter_30 : decode cX4_letter 30 = .ok (.goto 14, 3) := dk_167 0 14 (dk_at dksX4_letter_1 6 rfl rfl)
theorem dX4_letter_33 : decode cX4_letter 33 = .ok (.ldc2_w 254, 3) := dk_20 0 254 (dk_at dksX4_letter_1 9 rfl rfl)
theorem dX4_letter_36 : decode cX4_letter 36 = .ok (.aload_n 0, 1) := dk_42 (dk_at dksX4_letter_1 12 rfl rfl)
theorem dX4_letter_37 : decode cX4_letter 37 = .ok (.bipush (-2), 2) := dk_16 254 (dk_at dksX4_letter_1 13 rfl rfl)
theorem dX4_letter_39 : decode cX4_letter 39 = .ok (.invokevirtual 110, 3) := dk_182 0 110 (dk_at dksX4_letter_1 15 rfl rfl)
theorem dX4_letter_42 : decode cX4_letter 42 = .ok (.i2l, 1) := dk_133 (dk_at dksX4_letter_1 18 rfl rfl)
theorem dX4_letter_43 : decode cX4_letter 43 = .ok (.ladd, 1) := dk_97 (dk_at dksX4_letter_1 19 rfl rfl)
theorem dX4_letter_44 : decode cX4_letter 44 = .ok (.lreturn, 1) := dk_173 (dk_at dksX4_letter_1 20 rfl rfl)
abbrev cX4_letterOf : ByteArray := prog_19_method_81_code
def yX4_letterOf : MethodName := ⟨RX4, "letterOf", "(II)J"⟩
def dkwX4_letterOf_1 : List UInt8 := [182, 1, 48, 101, 173]
abbrev dktX4_letterOf_1 : List UInt8 := dkwX4_letterOf_1 ++ []
def dkwX4_letterOf_0 : List UInt8 := [42, 28, 3, 3, 27, 182, 1, 9, 42, 180, 0, 70, 28, 50, 42, 182, 0, 129, 47, 66, 33, 42, 28]
abbrev dktX4_letterOf_0 : List UInt8 := dkwX4_letterOf_0 ++ dktX4_letterOf_1
theorem dksX4_letterOf_0 : cX4_letterOf.data.toList.drop 0 = dktX4_letterOf_0 := by decide +kernel
theorem dksX4_letterOf_1 : cX4_letterOf.data.toList.drop 23 = dktX4_letterOf_1 := dk_seg dksX4_letterOf_0 23 rfl rfl
theorem dX4_letterOf_0 : decode cX4_letterOf 0 = .ok (.aload_n 0, 1) := dk_42 (dk_at dksX4_letterOf_0 0 rfl rfl)
theorem dX4_letterOf_1 : decode cX4_letterOf 1 = .ok (.iload_n 2, 1) := dk_28 (dk_at dksX4_letterOf_0 1 rfl rfl)
theorem dX4_letterOf_2 : decode cX4_letterOf 2 = .ok (.iconst 0, 1) := dk_3 (dk_at dksX4_letterOf_0 2 rfl rfl)
theorem dX4_letterOf_3 : decode cX4_letterOf 3 = .ok (.iconst 0, 1) := dk_3 (dk_at dksX4_letterOf_0 3 rfl rfl)
theorem dX4_letterOf_4 : decode cX4_letterOf 4 = .ok (.iload_n 1, 1) := dk_27 (dk_at dksX4_letterOf_0 4 rfl rfl)
theorem dX4_letterOf_5 : decode cX4_letterOf 5 = .ok (.invokevirtual 265, 3) := dk_182 1 9 (dk_at dksX4_letterOf_0 5 rfl rfl)
theorem dX4_letterOf_8 : decode cX4_letterOf 8 = .ok (.aload_n 0, 1) := dk_42 (dk_at dksX4_letterOf_0 8 rfl rfl)
theorem dX4_letterOf_9 : decode cX4_letterOf 9 = .ok (.getfield 70, 3) := dk_180 0 70 (dk_at dksX4_letterOf_0 9 rfl rfl)
theorem dX4_letterOf_12 : decode cX4_letterOf 12 = .ok (.iload_n 2, 1) := dk_28 (dk_at dksX4_letterOf_0 12 rfl rfl)
theorem dX4_letterOf_13 : decode cX4_letterOf 13 = .ok (.aaload, 1) := dk_50 (dk_at dksX4_letterOf_0 13 rfl rfl)
theorem dX4_letterOf_14 : decode cX4_letterOf 14 = .ok (.aload_n 0, 1) := dk_42 (dk_at dksX4_letterOf_0 14 rfl rfl)
theorem dX4_letterOf_15 : decode cX4_letterOf 15 = .ok (.invokevirtual 129, 3) := dk_182 0 129 (dk_at dksX4_letterOf_0 15 rfl rfl)
theorem dX4_letterOf_18 : decode cX4_letterOf 18 = .ok (.laload, 1) := dk_47 (dk_at dksX4_letterOf_0 18 rfl rfl)
theorem dX4_letterOf_19 : decode cX4_letterOf 19 = .ok (.lstore_n 3, 1) := dk_66 (dk_at dksX4_letterOf_0 19 rfl rfl)
theorem dX4_letterOf_20 : decode cX4_letterOf 20 = .ok (.lload_n 3, 1) := dk_33 (dk_at dksX4_letterOf_0 20 rfl rfl)
theorem dX4_letterOf_21 : decode cX4_letterOf 21 = .ok (.aload_n 0, 1) := dk_42 (dk_at dksX4_letterOf_0 21 rfl rfl)
theorem dX4_letterOf_22 : decode cX4_letterOf 22 = .ok (.iload_n 2, 1) := dk_28 (dk_at dksX4_letterOf_0 22 rfl rfl)
theorem dX4_letterOf_23 : decode cX4_letterOf 23 = .ok (.invokevirtual 304, 3) := dk_182 1 48 (dk_at dksX4_letterOf_1 0 rfl rfl)
theorem dX4_letterOf_26 : decode cX4_letterOf 26 = .ok (.lsub, 1) := dk_101 (dk_at dksX4_letterOf_1 3 rfl rfl)
theorem dX4_letterOf_27 : decode cX4_letterOf 27 = .ok (.lreturn, 1) := dk_173 (dk_at dksX4_letterOf_1 4 rfl rfl)
abbrev cX4_whom : ByteArray := prog_19_method_83_code
def yX4_whom : MethodName := ⟨RX4, "whom", "(I)I"⟩
def dkwX4_whom_2 : List UInt8 := [21, 5, 61, 22, 6, 66, 132, 5, 1, 167, 255, 225, 28, 172]
abbrev dktX4_whom_2 : List UInt8 := dkwX4_whom_2 ++ []
def dkwX4_whom_1 : List UInt8 := [54, 5, 21, 5, 6, 162, 0, 31, 42, 21, 5, 27, 182, 1, 100, 55, 6, 22, 6, 33, 148, 158, 0, 9]
abbrev dktX4_whom_1 : List UInt8 := dkwX4_whom_1 ++ dktX4_whom_2
def dkwX4_whom_0 : List UInt8 := [27, 133, 10, 20, 0, 92, 184, 0, 88, 154, 0, 10, 42, 16, 254, 182, 0, 110, 172, 2, 61, 9, 66, 3]
abbrev dktX4_whom_0 : List UInt8 := dkwX4_whom_0 ++ dktX4_whom_1
theorem dksX4_whom_0 : cX4_whom.data.toList.drop 0 = dktX4_whom_0 := by decide +kernel
theorem dksX4_whom_1 : cX4_whom.data.toList.drop 24 = dktX4_whom_1 := dk_seg dksX4_whom_0 24 rfl rfl
theorem dksX4_whom_2 : cX4_whom.data.toList.drop 48 = dktX4_whom_2 := dk_seg dksX4_whom_1 24 rfl rfl
theorem dX4_whom_0 : decode cX4_whom 0 = .ok (.iload_n 1, 1) := dk_27 (dk_at dksX4_whom_0 0 rfl rfl)
theorem dX4_whom_1 : decode cX4_whom 1 = .ok (.i2l, 1) := dk_133 (dk_at dksX4_whom_0 1 rfl rfl)
theorem dX4_whom_2 : decode cX4_whom 2 = .ok (.lconst 1, 1) := dk_10 (dk_at dksX4_whom_0 2 rfl rfl)
theorem dX4_whom_3 : decode cX4_whom 3 = .ok (.ldc2_w 92, 3) := dk_20 0 92 (dk_at dksX4_whom_0 3 rfl rfl)
theorem dX4_whom_6 : decode cX4_whom 6 = .ok (.invokestatic 88, 3) := dk_184 0 88 (dk_at dksX4_whom_0 6 rfl rfl)
theorem dX4_whom_9 : decode cX4_whom 9 = .ok (.ifCond .ne 10, 3) := dk_154 0 10 (dk_at dksX4_whom_0 9 rfl rfl)
theorem dX4_whom_12 : decode cX4_whom 12 = .ok (.aload_n 0, 1) := dk_42 (dk_at dksX4_whom_0 12 rfl rfl)
theorem dX4_whom_13 : decode cX4_whom 13 = .ok (.bipush (-2), 2) := dk_16 254 (dk_at dksX4_whom_0 13 rfl rfl)
theorem dX4_whom_15 : decode cX4_whom 15 = .ok (.invokevirtual 110, 3) := dk_182 0 110 (dk_at dksX4_whom_0 15 rfl rfl)
theorem dX4_whom_18 : decode cX4_whom 18 = .ok (.ireturn, 1) := dk_172 (dk_at dksX4_whom_0 18 rfl rfl)
theorem dX4_whom_19 : decode cX4_whom 19 = .ok (.iconst (-1), 1) := dk_2 (dk_at dksX4_whom_0 19 rfl rfl)
theorem dX4_whom_20 : decode cX4_whom 20 = .ok (.istore_n 2, 1) := dk_61 (dk_at dksX4_whom_0 20 rfl rfl)
theorem dX4_whom_21 : decode cX4_whom 21 = .ok (.lconst 0, 1) := dk_9 (dk_at dksX4_whom_0 21 rfl rfl)
theorem dX4_whom_22 : decode cX4_whom 22 = .ok (.lstore_n 3, 1) := dk_66 (dk_at dksX4_whom_0 22 rfl rfl)
theorem dX4_whom_23 : decode cX4_whom 23 = .ok (.iconst 0, 1) := dk_3 (dk_at dksX4_whom_0 23 rfl rfl)
theorem dX4_whom_24 : decode cX4_whom 24 = .ok (.istore 5, 2) := dk_54 5 (dk_at dksX4_whom_1 0 rfl rfl)
theorem dX4_whom_26 : decode cX4_whom 26 = .ok (.iload 5, 2) := dk_21 5 (dk_at dksX4_whom_1 2 rfl rfl)
theorem dX4_whom_28 : decode cX4_whom 28 = .ok (.iconst 3, 1) := dk_6 (dk_at dksX4_whom_1 4 rfl rfl)
theorem dX4_whom_29 : decode cX4_whom 29 = .ok (.if_icmp .ge 31, 3) := dk_162 0 31 (dk_at dksX4_whom_1 5 rfl rfl)
theorem dX4_whom_32 : decode cX4_whom 32 = .ok (.aload_n 0, 1) := dk_42 (dk_at dksX4_whom_1 8 rfl rfl)
theorem dX4_whom_33 : decode cX4_whom 33 = .ok (.iload 5, 2) := dk_21 5 (dk_at dksX4_whom_1 9 rfl rfl)
theorem dX4_whom_35 : decode cX4_whom 35 = .ok (.iload_n 1, 1) := dk_27 (dk_at dksX4_whom_1 11 rfl rfl)
theorem dX4_whom_36 : decode cX4_whom 36 = .ok (.invokevirtual 356, 3) := dk_182 1 100 (dk_at dksX4_whom_1 12 rfl rfl)
theorem dX4_whom_39 : decode cX4_whom 39 = .ok (.lstore 6, 2) := dk_55 6 (dk_at dksX4_whom_1 15 rfl rfl)
theorem dX4_whom_41 : decode cX4_whom 41 = .ok (.lload 6, 2) := dk_22 6 (dk_at dksX4_whom_1 17 rfl rfl)
theorem dX4_whom_43 : decode cX4_whom 43 = .ok (.lload_n 3, 1) := dk_33 (dk_at dksX4_whom_1 19 rfl rfl)
theorem dX4_whom_44 : decode cX4_whom 44 = .ok (.lcmp, 1) := dk_148 (dk_at dksX4_whom_1 20 rfl rfl)
theorem dX4_whom_45 : decode cX4_whom 45 = .ok (.ifCond .le 9, 3) := dk_158 0 9 (dk_at dksX4_whom_1 21 rfl rfl)
theorem dX4_whom_48 : decode cX4_whom 48 = .ok (.iload 5, 2) := dk_21 5 (dk_at dksX4_whom_2 0 rfl rfl)
theorem dX4_whom_50 : decode cX4_whom 50 = .ok (.istore_n 2, 1) := dk_61 (dk_at dksX4_whom_2 2 rfl rfl)
theorem dX4_whom_51 : decode cX4_whom 51 = .ok (.lload 6, 2) := dk_22 6 (dk_at dksX4_whom_2 3 rfl rfl)
theorem dX4_whom_53 : decode cX4_whom 53 = .ok (.lstore_n 3, 1) := dk_66 (dk_at dksX4_whom_2 5 rfl rfl)
theorem dX4_whom_54 : decode cX4_whom 54 = .ok (.iinc 5 1, 3) := dk_132 5 1 (dk_at dksX4_whom_2 6 rfl rfl)
theorem dX4_whom_57 : decode cX4_whom 57 = .ok (.goto (-31), 3) := dk_167 255 225 (dk_at dksX4_whom_2 9 rfl rfl)
theorem dX4_whom_60 : decode cX4_whom 60 = .ok (.iload_n 2, 1) := dk_28 (dk_at dksX4_whom_2 12 rfl rfl)
theorem dX4_whom_61 : decode cX4_whom 61 = .ok (.ireturn, 1) := dk_172 (dk_at dksX4_whom_2 13 rfl rfl)
abbrev cX4_feast : ByteArray := prog_19_method_84_code
def yX4_feast : MethodName := ⟨RX4, "feast", "(II)J"⟩
def dkwX4_feast_4 : List UInt8 := [167, 255, 231, 45, 28, 182, 1, 48, 42, 28, 182, 1, 48, 101, 173]
abbrev dktX4_feast_4 : List UInt8 := dkwX4_feast_4 ++ []
def dkwX4_feast_3 : List UInt8 := [180, 0, 85, 162, 0, 22, 45, 180, 0, 51, 21, 4, 50, 4, 92, 46, 27, 96, 79, 132, 4, 1]
abbrev dktX4_feast_3 : List UInt8 := dkwX4_feast_3 ++ dktX4_feast_4
def dkwX4_feast_2 : List UInt8 := [20, 0, 254, 42, 16, 251, 182, 0, 110, 133, 97, 173, 42, 182, 0, 239, 78, 3, 54, 4, 21, 4, 42]
abbrev dktX4_feast_2 : List UInt8 := dkwX4_feast_2 ++ dktX4_feast_3
def dkwX4_feast_1 : List UInt8 := [16, 254, 182, 0, 110, 133, 97, 173, 42, 182, 0, 143, 27, 42, 180, 0, 85, 104, 96, 16, 100, 164, 0, 15]
abbrev dktX4_feast_1 : List UInt8 := dkwX4_feast_1 ++ dktX4_feast_2
def dkwX4_feast_0 : List UInt8 := [27, 133, 9, 20, 1, 103, 184, 0, 88, 153, 0, 10, 28, 184, 1, 42, 154, 0, 15, 20, 0, 254, 42]
abbrev dktX4_feast_0 : List UInt8 := dkwX4_feast_0 ++ dktX4_feast_1
theorem dksX4_feast_0 : cX4_feast.data.toList.drop 0 = dktX4_feast_0 := by decide +kernel
theorem dksX4_feast_1 : cX4_feast.data.toList.drop 23 = dktX4_feast_1 := dk_seg dksX4_feast_0 23 rfl rfl
theorem dksX4_feast_2 : cX4_feast.data.toList.drop 47 = dktX4_feast_2 := dk_seg dksX4_feast_1 24 rfl rfl
theorem dksX4_feast_3 : cX4_feast.data.toList.drop 70 = dktX4_feast_3 := dk_seg dksX4_feast_2 23 rfl rfl
theorem dksX4_feast_4 : cX4_feast.data.toList.drop 92 = dktX4_feast_4 := dk_seg dksX4_feast_3 22 rfl rfl
theorem dX4_feast_0 : decode cX4_feast 0 = .ok (.iload_n 1, 1) := dk_27 (dk_at dksX4_feast_0 0 rfl rfl)
theorem dX4_feast_1 : decode cX4_feast 1 = .ok (.i2l, 1) := dk_133 (dk_at dksX4_feast_0 1 rfl rfl)
theorem dX4_feast_2 : decode cX4_feast 2 = .ok (.lconst 0, 1) := dk_9 (dk_at dksX4_feast_0 2 rfl rfl)
theorem dX4_feast_3 : decode cX4_feast 3 = .ok (.ldc2_w 359, 3) := dk_20 1 103 (dk_at dksX4_feast_0 3 rfl rfl)
theorem dX4_feast_6 : decode cX4_feast 6 = .ok (.invokestatic 88, 3) := dk_184 0 88 (dk_at dksX4_feast_0 6 rfl rfl)
theorem dX4_feast_9 : decode cX4_feast 9 = .ok (.ifCond .eq 10, 3) := dk_153 0 10 (dk_at dksX4_feast_0 9 rfl rfl)
theorem dX4_feast_12 : decode cX4_feast 12 = .ok (.iload_n 2, 1) := dk_28 (dk_at dksX4_feast_0 12 rfl rfl)
theorem dX4_feast_13 : decode cX4_feast 13 = .ok (.invokestatic 298, 3) := dk_184 1 42 (dk_at dksX4_feast_0 13 rfl rfl)
theorem dX4_feast_16 : decode cX4_feast 16 = .ok (.ifCond .ne 15, 3) := dk_154 0 15 (dk_at dksX4_feast_0 16 rfl rfl)
theorem dX4_feast_19 : decode cX4_feast 19 = .ok (.ldc2_w 254, 3) := dk_20 0 254 (dk_at dksX4_feast_0 19 rfl rfl)
theorem dX4_feast_22 : decode cX4_feast 22 = .ok (.aload_n 0, 1) := dk_42 (dk_at dksX4_feast_0 22 rfl rfl)
theorem dX4_feast_23 : decode cX4_feast 23 = .ok (.bipush (-2), 2) := dk_16 254 (dk_at dksX4_feast_1 0 rfl rfl)
theorem dX4_feast_25 : decode cX4_feast 25 = .ok (.invokevirtual 110, 3) := dk_182 0 110 (dk_at dksX4_feast_1 2 rfl rfl)
theorem dX4_feast_28 : decode cX4_feast 28 = .ok (.i2l, 1) := dk_133 (dk_at dksX4_feast_1 5 rfl rfl)
theorem dX4_feast_29 : decode cX4_feast 29 = .ok (.ladd, 1) := dk_97 (dk_at dksX4_feast_1 6 rfl rfl)
theorem dX4_feast_30 : decode cX4_feast 30 = .ok (.lreturn, 1) := dk_173 (dk_at dksX4_feast_1 7 rfl rfl)
theorem dX4_feast_31 : decode cX4_feast 31 = .ok (.aload_n 0, 1) := dk_42 (dk_at dksX4_feast_1 8 rfl rfl)
theorem dX4_feast_32 : decode cX4_feast 32 = .ok (.invokevirtual 143, 3) := dk_182 0 143 (dk_at dksX4_feast_1 9 rfl rfl)
theorem dX4_feast_35 : decode cX4_feast 35 = .ok (.iload_n 1, 1) := dk_27 (dk_at dksX4_feast_1 12 rfl rfl)
theorem dX4_feast_36 : decode cX4_feast 36 = .ok (.aload_n 0, 1) := dk_42 (dk_at dksX4_feast_1 13 rfl rfl)
theorem dX4_feast_37 : decode cX4_feast 37 = .ok (.getfield 85, 3) := dk_180 0 85 (dk_at dksX4_feast_1 14 rfl rfl)
theorem dX4_feast_40 : decode cX4_feast 40 = .ok (.imul, 1) := dk_104 (dk_at dksX4_feast_1 17 rfl rfl)
theorem dX4_feast_41 : decode cX4_feast 41 = .ok (.iadd, 1) := dk_96 (dk_at dksX4_feast_1 18 rfl rfl)
theorem dX4_feast_42 : decode cX4_feast 42 = .ok (.bipush 100, 2) := dk_16 100 (dk_at dksX4_feast_1 19 rfl rfl)
theorem dX4_feast_44 : decode cX4_feast 44 = .ok (.if_icmp .le 15, 3) := dk_164 0 15 (dk_at dksX4_feast_1 21 rfl rfl)
theorem dX4_feast_47 : decode cX4_feast 47 = .ok (.ldc2_w 254, 3) := dk_20 0 254 (dk_at dksX4_feast_2 0 rfl rfl)
theorem dX4_feast_50 : decode cX4_feast 50 = .ok (.aload_n 0, 1) := dk_42 (dk_at dksX4_feast_2 3 rfl rfl)
theorem dX4_feast_51 : decode cX4_feast 51 = .ok (.bipush (-5), 2) := dk_16 251 (dk_at dksX4_feast_2 4 rfl rfl)
theorem dX4_feast_53 : decode cX4_feast 53 = .ok (.invokevirtual 110, 3) := dk_182 0 110 (dk_at dksX4_feast_2 6 rfl rfl)
theorem dX4_feast_56 : decode cX4_feast 56 = .ok (.i2l, 1) := dk_133 (dk_at dksX4_feast_2 9 rfl rfl)
theorem dX4_feast_57 : decode cX4_feast 57 = .ok (.ladd, 1) := dk_97 (dk_at dksX4_feast_2 10 rfl rfl)
theorem dX4_feast_58 : decode cX4_feast 58 = .ok (.lreturn, 1) := dk_173 (dk_at dksX4_feast_2 11 rfl rfl)
theorem dX4_feast_59 : decode cX4_feast 59 = .ok (.aload_n 0, 1) := dk_42 (dk_at dksX4_feast_2 12 rfl rfl)
theorem dX4_feast_60 : decode cX4_feast 60 = .ok (.invokevirtual 239, 3) := dk_182 0 239 (dk_at dksX4_feast_2 13 rfl rfl)
theorem dX4_feast_63 : decode cX4_feast 63 = .ok (.astore_n 3, 1) := dk_78 (dk_at dksX4_feast_2 16 rfl rfl)
theorem dX4_feast_64 : decode cX4_feast 64 = .ok (.iconst 0, 1) := dk_3 (dk_at dksX4_feast_2 17 rfl rfl)
theorem dX4_feast_65 : decode cX4_feast 65 = .ok (.istore 4, 2) := dk_54 4 (dk_at dksX4_feast_2 18 rfl rfl)
theorem dX4_feast_67 : decode cX4_feast 67 = .ok (.iload 4, 2) := dk_21 4 (dk_at dksX4_feast_2 20 rfl rfl)
theorem dX4_feast_69 : decode cX4_feast 69 = .ok (.aload_n 0, 1) := dk_42 (dk_at dksX4_feast_2 22 rfl rfl)
theorem dX4_feast_70 : decode cX4_feast 70 = .ok (.getfield 85, 3) := dk_180 0 85 (dk_at dksX4_feast_3 0 rfl rfl)
theorem dX4_feast_73 : decode cX4_feast 73 = .ok (.if_icmp .ge 22, 3) := dk_162 0 22 (dk_at dksX4_feast_3 3 rfl rfl)
theorem dX4_feast_76 : decode cX4_feast 76 = .ok (.aload_n 3, 1) := dk_45 (dk_at dksX4_feast_3 6 rfl rfl)
theorem dX4_feast_77 : decode cX4_feast 77 = .ok (.getfield 51, 3) := dk_180 0 51 (dk_at dksX4_feast_3 7 rfl rfl)
theorem dX4_feast_80 : decode cX4_feast 80 = .ok (.iload 4, 2) := dk_21 4 (dk_at dksX4_feast_3 10 rfl rfl)
theorem dX4_feast_82 : decode cX4_feast 82 = .ok (.aaload, 1) := dk_50 (dk_at dksX4_feast_3 12 rfl rfl)
theorem dX4_feast_83 : decode cX4_feast 83 = .ok (.iconst 1, 1) := dk_4 (dk_at dksX4_feast_3 13 rfl rfl)
theorem dX4_feast_84 : decode cX4_feast 84 = .ok (.dup2, 1) := dk_92 (dk_at dksX4_feast_3 14 rfl rfl)
theorem dX4_feast_85 : decode cX4_feast 85 = .ok (.iaload, 1) := dk_46 (dk_at dksX4_feast_3 15 rfl rfl)
theorem dX4_feast_86 : decode cX4_feast 86 = .ok (.iload_n 1, 1) := dk_27 (dk_at dksX4_feast_3 16 rfl rfl)
theorem dX4_feast_87 : decode cX4_feast 87 = .ok (.iadd, 1) := dk_96 (dk_at dksX4_feast_3 17 rfl rfl)
theorem dX4_feast_88 : decode cX4_feast 88 = .ok (.iastore, 1) := dk_79 (dk_at dksX4_feast_3 18 rfl rfl)
theorem dX4_feast_89 : decode cX4_feast 89 = .ok (.iinc 4 1, 3) := dk_132 4 1 (dk_at dksX4_feast_3 19 rfl rfl)
theorem dX4_feast_92 : decode cX4_feast 92 = .ok (.goto (-25), 3) := dk_167 255 231 (dk_at dksX4_feast_4 0 rfl rfl)
theorem dX4_feast_95 : decode cX4_feast 95 = .ok (.aload_n 3, 1) := dk_45 (dk_at dksX4_feast_4 3 rfl rfl)
theorem dX4_feast_96 : decode cX4_feast 96 = .ok (.iload_n 2, 1) := dk_28 (dk_at dksX4_feast_4 4 rfl rfl)
theorem dX4_feast_97 : decode cX4_feast 97 = .ok (.invokevirtual 304, 3) := dk_182 1 48 (dk_at dksX4_feast_4 5 rfl rfl)
theorem dX4_feast_100 : decode cX4_feast 100 = .ok (.aload_n 0, 1) := dk_42 (dk_at dksX4_feast_4 8 rfl rfl)
theorem dX4_feast_101 : decode cX4_feast 101 = .ok (.iload_n 2, 1) := dk_28 (dk_at dksX4_feast_4 9 rfl rfl)
theorem dX4_feast_102 : decode cX4_feast 102 = .ok (.invokevirtual 304, 3) := dk_182 1 48 (dk_at dksX4_feast_4 10 rfl rfl)
theorem dX4_feast_105 : decode cX4_feast 105 = .ok (.lsub, 1) := dk_101 (dk_at dksX4_feast_4 13 rfl rfl)
theorem dX4_feast_106 : decode cX4_feast 106 = .ok (.lreturn, 1) := dk_173 (dk_at dksX4_feast_4 14 rfl rfl)
abbrev cX4_go : ByteArray := prog_19_method_87_code
def yX4_go : MethodName := ⟨RX4, "go", "(II)I"⟩
def dkwX4_go_5 : List UInt8 := [21, 6, 96, 54, 4, 132, 5, 1, 167, 255, 211, 21, 4, 172]
abbrev dktX4_go_5 : List UInt8 := dkwX4_go_5 ++ []
def dkwX4_go_4 : List UInt8 := [180, 0, 31, 27, 46, 182, 1, 112, 54, 6, 42, 180, 0, 57, 8, 92, 46, 21, 6, 96, 79, 21, 4]
abbrev dktX4_go_4 : List UInt8 := dkwX4_go_4 ++ dktX4_go_5
def dkwX4_go_3 : List UInt8 := [182, 1, 20, 3, 54, 4, 3, 54, 5, 21, 5, 28, 162, 0, 45, 42, 42, 180, 0, 28, 27, 46, 42]
abbrev dktX4_go_3 : List UInt8 := dkwX4_go_3 ++ dktX4_go_4
def dkwX4_go_2 : List UInt8 := [19, 1, 111, 100, 172, 42, 180, 0, 28, 27, 46, 16, 6, 160, 0, 13, 42, 42, 180, 0, 31, 27, 46]
abbrev dktX4_go_2 : List UInt8 := dkwX4_go_2 ++ dktX4_go_3
def dkwX4_go_1 : List UInt8 := [42, 16, 254, 182, 0, 110, 19, 1, 111, 100, 172, 42, 27, 182, 1, 27, 62, 29, 153, 0, 9, 29]
abbrev dktX4_go_1 : List UInt8 := dkwX4_go_1 ++ dktX4_go_2
def dkwX4_go_0 : List UInt8 := [27, 133, 9, 20, 0, 104, 184, 0, 88, 153, 0, 15, 28, 133, 10, 20, 1, 109, 184, 0, 88, 154, 0, 14]
abbrev dktX4_go_0 : List UInt8 := dkwX4_go_0 ++ dktX4_go_1
theorem dksX4_go_0 : cX4_go.data.toList.drop 0 = dktX4_go_0 := by decide +kernel
theorem dksX4_go_1 : cX4_go.data.toList.drop 24 = dktX4_go_1 := dk_seg dksX4_go_0 24 rfl rfl
theorem dksX4_go_2 : cX4_go.data.toList.drop 46 = dktX4_go_2 := dk_seg dksX4_go_1 22 rfl rfl
theorem dksX4_go_3 : cX4_go.data.toList.drop 69 = dktX4_go_3 := dk_seg dksX4_go_2 23 rfl rfl
theorem dksX4_go_4 : cX4_go.data.toList.drop 92 = dktX4_go_4 := dk_seg dksX4_go_3 23 rfl rfl
theorem dksX4_go_5 : cX4_go.data.toList.drop 115 = dktX4_go_5 := dk_seg dksX4_go_4 23 rfl rfl
theorem dX4_go_0 : decode cX4_go 0 = .ok (.iload_n 1, 1) := dk_27 (dk_at dksX4_go_0 0 rfl rfl)
theorem dX4_go_1 : decode cX4_go 1 = .ok (.i2l, 1) := dk_133 (dk_at dksX4_go_0 1 rfl rfl)
theorem dX4_go_2 : decode cX4_go 2 = .ok (.lconst 0, 1) := dk_9 (dk_at dksX4_go_0 2 rfl rfl)
theorem dX4_go_3 : decode cX4_go 3 = .ok (.ldc2_w 104, 3) := dk_20 0 104 (dk_at dksX4_go_0 3 rfl rfl)
theorem dX4_go_6 : decode cX4_go 6 = .ok (.invokestatic 88, 3) := dk_184 0 88 (dk_at dksX4_go_0 6 rfl rfl)
theorem dX4_go_9 : decode cX4_go 9 = .ok (.ifCond .eq 15, 3) := dk_153 0 15 (dk_at dksX4_go_0 9 rfl rfl)
theorem dX4_go_12 : decode cX4_go 12 = .ok (.iload_n 2, 1) := dk_28 (dk_at dksX4_go_0 12 rfl rfl)
theorem dX4_go_13 : decode cX4_go 13 = .ok (.i2l, 1) := dk_133 (dk_at dksX4_go_0 13 rfl rfl)
theorem dX4_go_14 : decode cX4_go 14 = .ok (.lconst 1, 1) := dk_10 (dk_at dksX4_go_0 14 rfl rfl)
theorem dX4_go_15 : decode cX4_go 15 = .ok (.ldc2_w 365, 3) := dk_20 1 109 (dk_at dksX4_go_0 15 rfl rfl)
theorem dX4_go_18 : decode cX4_go 18 = .ok (.invokestatic 88, 3) := dk_184 0 88 (dk_at dksX4_go_0 18 rfl rfl)
theorem dX4_go_21 : decode cX4_go 21 = .ok (.ifCond .ne 14, 3) := dk_154 0 14 (dk_at dksX4_go_0 21 rfl rfl)
theorem dX4_go_24 : decode cX4_go 24 = .ok (.aload_n 0, 1) := dk_42 (dk_at dksX4_go_1 0 rfl rfl)
theorem dX4_go_25 : decode cX4_go 25 = .ok (.bipush (-2), 2) := dk_16 254 (dk_at dksX4_go_1 1 rfl rfl)
theorem dX4_go_27 : decode cX4_go 27 = .ok (.invokevirtual 110, 3) := dk_182 0 110 (dk_at dksX4_go_1 3 rfl rfl)
theorem dX4_go_30 : decode cX4_go 30 = .ok (.ldc_w 367, 3) := dk_19 1 111 (dk_at dksX4_go_1 6 rfl rfl)
theorem dX4_go_33 : decode cX4_go 33 = .ok (.isub, 1) := dk_100 (dk_at dksX4_go_1 9 rfl rfl)
theorem dX4_go_34 : decode cX4_go 34 = .ok (.ireturn, 1) := dk_172 (dk_at dksX4_go_1 10 rfl rfl)
theorem dX4_go_35 : decode cX4_go 35 = .ok (.aload_n 0, 1) := dk_42 (dk_at dksX4_go_1 11 rfl rfl)
theorem dX4_go_36 : decode cX4_go 36 = .ok (.iload_n 1, 1) := dk_27 (dk_at dksX4_go_1 12 rfl rfl)
theorem dX4_go_37 : decode cX4_go 37 = .ok (.invokevirtual 283, 3) := dk_182 1 27 (dk_at dksX4_go_1 13 rfl rfl)
theorem dX4_go_40 : decode cX4_go 40 = .ok (.istore_n 3, 1) := dk_62 (dk_at dksX4_go_1 16 rfl rfl)
theorem dX4_go_41 : decode cX4_go 41 = .ok (.iload_n 3, 1) := dk_29 (dk_at dksX4_go_1 17 rfl rfl)
theorem dX4_go_42 : decode cX4_go 42 = .ok (.ifCond .eq 9, 3) := dk_153 0 9 (dk_at dksX4_go_1 18 rfl rfl)
theorem dX4_go_45 : decode cX4_go 45 = .ok (.iload_n 3, 1) := dk_29 (dk_at dksX4_go_1 21 rfl rfl)
theorem dX4_go_46 : decode cX4_go 46 = .ok (.ldc_w 367, 3) := dk_19 1 111 (dk_at dksX4_go_2 0 rfl rfl)
theorem dX4_go_49 : decode cX4_go 49 = .ok (.isub, 1) := dk_100 (dk_at dksX4_go_2 3 rfl rfl)
theorem dX4_go_50 : decode cX4_go 50 = .ok (.ireturn, 1) := dk_172 (dk_at dksX4_go_2 4 rfl rfl)
theorem dX4_go_51 : decode cX4_go 51 = .ok (.aload_n 0, 1) := dk_42 (dk_at dksX4_go_2 5 rfl rfl)
theorem dX4_go_52 : decode cX4_go 52 = .ok (.getfield 28, 3) := dk_180 0 28 (dk_at dksX4_go_2 6 rfl rfl)
theorem dX4_go_55 : decode cX4_go 55 = .ok (.iload_n 1, 1) := dk_27 (dk_at dksX4_go_2 9 rfl rfl)
theorem dX4_go_56 : decode cX4_go 56 = .ok (.iaload, 1) := dk_46 (dk_at dksX4_go_2 10 rfl rfl)
theorem dX4_go_57 : decode cX4_go 57 = .ok (.bipush 6, 2) := dk_16 6 (dk_at dksX4_go_2 11 rfl rfl)
theorem dX4_go_59 : decode cX4_go 59 = .ok (.if_icmp .ne 13, 3) := dk_160 0 13 (dk_at dksX4_go_2 13 rfl rfl)
theorem dX4_go_62 : decode cX4_go 62 = .ok (.aload_n 0, 1) := dk_42 (dk_at dksX4_go_2 16 rfl rfl)
theorem dX4_go_63 : decode cX4_go 63 = .ok (.aload_n 0, 1) := dk_42 (dk_at dksX4_go_2 17 rfl rfl)
theorem dX4_go_64 : decode cX4_go 64 = .ok (.getfield 31, 3) := dk_180 0 31 (dk_at dksX4_go_2 18 rfl rfl)
theorem dX4_go_67 : decode cX4_go 67 = .ok (.iload_n 1, 1) := dk_27 (dk_at dksX4_go_2 21 rfl rfl)
theorem dX4_go_68 : decode cX4_go 68 = .ok (.iaload, 1) := dk_46 (dk_at dksX4_go_2 22 rfl rfl)
theorem dX4_go_69 : decode cX4_go 69 = .ok (.invokevirtual 276, 3) := dk_182 1 20 (dk_at dksX4_go_3 0 rfl rfl)
theorem dX4_go_72 : decode cX4_go 72 = .ok (.iconst 0, 1) := dk_3 (dk_at dksX4_go_3 3 rfl rfl)
theorem dX4_go_73 : decode cX4_go 73 = .ok (.istore 4, 2) := dk_54 4 (dk_at dksX4_go_3 4 rfl rfl)
theorem dX4_go_75 : decode cX4_go 75 = .ok (.iconst 0, 1) := dk_3 (dk_at dksX4_go_3 6 rfl rfl)
theorem dX4_go_76 : decode cX4_go 76 = .ok (.istore 5, 2) := dk_54 5 (dk_at dksX4_go_3 7 rfl rfl)
theorem dX4_go_78 : decode cX4_go 78 = .ok (.iload 5, 2) := dk_21 5 (dk_at dksX4_go_3 9 rfl rfl)
theorem dX4_go_80 : decode cX4_go 80 = .ok (.iload_n 2, 1) := dk_28 (dk_at dksX4_go_3 11 rfl rfl)
theorem dX4_go_81 : decode cX4_go 81 = .ok (.if_icmp .ge 45, 3) := dk_162 0 45 (dk_at dksX4_go_3 12 rfl rfl)
theorem dX4_go_84 : decode cX4_go 84 = .ok (.aload_n 0, 1) := dk_42 (dk_at dksX4_go_3 15 rfl rfl)
theorem dX4_go_85 : decode cX4_go 85 = .ok (.aload_n 0, 1) := dk_42 (dk_at dksX4_go_3 16 rfl rfl)
theorem dX4_go_86 : decode cX4_go 86 = .ok (.getfield 28, 3) := dk_180 0 28 (dk_at dksX4_go_3 17 rfl rfl)
theorem dX4_go_89 : decode cX4_go 89 = .ok (.iload_n 1, 1) := dk_27 (dk_at dksX4_go_3 20 rfl rfl)
theorem dX4_go_90 : decode cX4_go 90 = .ok (.iaload, 1) := dk_46 (dk_at dksX4_go_3 21 rfl rfl)
theorem dX4_go_91 : decode cX4_go 91 = .ok (.aload_n 0, 1) := dk_42 (dk_at dksX4_go_3 22 rfl rfl)
theorem dX4_go_92 : decode cX4_go 92 = .ok (.getfield 31, 3) := dk_180 0 31 (dk_at dksX4_go_4 0 rfl rfl)
theorem dX4_go_95 : decode cX4_go 95 = .ok (.iload_n 1, 1) := dk_27 (dk_at dksX4_go_4 3 rfl rfl)
theorem dX4_go_96 : decode cX4_go 96 = .ok (.iaload, 1) := dk_46 (dk_at dksX4_go_4 4 rfl rfl)
theorem dX4_go_97 : decode cX4_go 97 = .ok (.invokevirtual 368, 3) := dk_182 1 112 (dk_at dksX4_go_4 5 rfl rfl)
theorem dX4_go_100 : decode cX4_go 100 = .ok (.istore 6, 2) := dk_54 6 (dk_at dksX4_go_4 8 rfl rfl)
theorem dX4_go_102 : decode cX4_go 102 = .ok (.aload_n 0, 1) := dk_42 (dk_at dksX4_go_4 10 rfl rfl)
theorem dX4_go_103 : decode cX4_go 103 = .ok (.getfield 57, 3) := dk_180 0 57 (dk_at dksX4_go_4 11 rfl rfl)
theorem dX4_go_106 : decode cX4_go 106 = .ok (.iconst 5, 1) := dk_8 (dk_at dksX4_go_4 14 rfl rfl)
theorem dX4_go_107 : decode cX4_go 107 = .ok (.dup2, 1) := dk_92 (dk_at dksX4_go_4 15 rfl rfl)
theorem dX4_go_108 : decode cX4_go 108 = .ok (.iaload, 1) := dk_46 (dk_at dksX4_go_4 16 rfl rfl)
theorem dX4_go_109 : decode cX4_go 109 = .ok (.iload 6, 2) := dk_21 6 (dk_at dksX4_go_4 17 rfl rfl)
theorem dX4_go_111 : decode cX4_go 111 = .ok (.iadd, 1) := dk_96 (dk_at dksX4_go_4 19 rfl rfl)
theorem dX4_go_112 : decode cX4_go 112 = .ok (.iastore, 1) := dk_79 (dk_at dksX4_go_4 20 rfl rfl)
theorem dX4_go_113 : decode cX4_go 113 = .ok (.iload 4, 2) := dk_21 4 (dk_at dksX4_go_4 21 rfl rfl)
theorem dX4_go_115 : decode cX4_go 115 = .ok (.iload 6, 2) := dk_21 6 (dk_at dksX4_go_5 0 rfl rfl)
theorem dX4_go_117 : decode cX4_go 117 = .ok (.iadd, 1) := dk_96 (dk_at dksX4_go_5 2 rfl rfl)
theorem dX4_go_118 : decode cX4_go 118 = .ok (.istore 4, 2) := dk_54 4 (dk_at dksX4_go_5 3 rfl rfl)
theorem dX4_go_120 : decode cX4_go 120 = .ok (.iinc 5 1, 3) := dk_132 5 1 (dk_at dksX4_go_5 5 rfl rfl)
theorem dX4_go_123 : decode cX4_go 123 = .ok (.goto (-45), 3) := dk_167 255 211 (dk_at dksX4_go_5 8 rfl rfl)
theorem dX4_go_126 : decode cX4_go 126 = .ok (.iload 4, 2) := dk_21 4 (dk_at dksX4_go_5 11 rfl rfl)
theorem dX4_go_128 : decode cX4_go 128 = .ok (.ireturn, 1) := dk_172 (dk_at dksX4_go_5 13 rfl rfl)
abbrev cX4_hour : ByteArray := prog_19_method_86_code
def yX4_hour : MethodName := ⟨RX4, "hour", "(II)I"⟩
def dkwX4_hour_10 : List UInt8 := [180, 0, 51, 21, 4, 50, 6, 46, 116, 172]
abbrev dktX4_hour_10 : List UInt8 := dkwX4_hour_10 ++ []
def dkwX4_hour_9 : List UInt8 := [50, 5, 46, 42, 180, 0, 54, 4, 46, 100, 172, 42, 180, 0, 57, 6, 92, 46, 4, 96, 79, 42]
abbrev dktX4_hour_9 : List UInt8 := dkwX4_hour_9 ++ dktX4_hour_10
def dkwX4_hour_8 : List UInt8 := [180, 0, 54, 3, 46, 162, 0, 30, 42, 180, 0, 57, 5, 92, 46, 4, 96, 79, 42, 180, 0, 51, 21, 4]
abbrev dktX4_hour_8 : List UInt8 := dkwX4_hour_8 ++ dktX4_hour_9
def dkwX4_hour_7 : List UInt8 := [92, 46, 4, 96, 79, 42, 180, 0, 51, 21, 4, 50, 5, 46, 172, 42, 16, 10, 182, 1, 106, 42]
abbrev dktX4_hour_7 : List UInt8 := dkwX4_hour_7 ++ dktX4_hour_8
def dkwX4_hour_6 : List UInt8 := [54, 5, 21, 5, 2, 159, 0, 34, 42, 180, 0, 43, 21, 5, 92, 46, 4, 96, 79, 42, 180, 0, 57, 4]
abbrev dktX4_hour_6 : List UInt8 := dkwX4_hour_6 ++ dktX4_hour_7
def dkwX4_hour_5 : List UInt8 := [21, 4, 42, 180, 0, 85, 160, 0, 5, 3, 172, 42, 27, 28, 21, 4, 42, 182, 0, 129, 182, 1, 24]
abbrev dktX4_hour_5 : List UInt8 := dkwX4_hour_5 ++ dktX4_hour_6
def dkwX4_hour_4 : List UInt8 := [4, 46, 161, 0, 21, 29, 42, 180, 0, 51, 21, 4, 50, 4, 46, 100, 62, 132, 4, 1, 167, 255, 219]
abbrev dktX4_hour_4 : List UInt8 := dkwX4_hour_4 ++ dktX4_hour_5
def dkwX4_hour_3 : List UInt8 := [182, 1, 106, 62, 3, 54, 4, 21, 4, 42, 180, 0, 85, 162, 0, 34, 29, 42, 180, 0, 51, 21, 4, 50]
abbrev dktX4_hour_3 : List UInt8 := dkwX4_hour_3 ++ dktX4_hour_4
def dkwX4_hour_2 : List UInt8 := [46, 4, 96, 79, 132, 3, 1, 167, 255, 204, 42, 180, 0, 57, 3, 92, 46, 4, 96, 79, 42, 16, 100]
abbrev dktX4_hour_2 : List UInt8 := dkwX4_hour_2 ++ dktX4_hour_3
def dkwX4_hour_1 : List UInt8 := [180, 0, 46, 29, 46, 162, 0, 23, 42, 180, 0, 43, 29, 92, 46, 4, 100, 79, 42, 180, 0, 57, 7, 92]
abbrev dktX4_hour_1 : List UInt8 := dkwX4_hour_1 ++ dktX4_hour_2
def dkwX4_hour_0 : List UInt8 := [3, 62, 29, 6, 162, 0, 53, 42, 180, 0, 43, 29, 46, 158, 0, 38, 42, 16, 10, 182, 1, 106, 42]
abbrev dktX4_hour_0 : List UInt8 := dkwX4_hour_0 ++ dktX4_hour_1
theorem dksX4_hour_0 : cX4_hour.data.toList.drop 0 = dktX4_hour_0 := by decide +kernel
theorem dksX4_hour_1 : cX4_hour.data.toList.drop 23 = dktX4_hour_1 := dk_seg dksX4_hour_0 23 rfl rfl
theorem dksX4_hour_2 : cX4_hour.data.toList.drop 47 = dktX4_hour_2 := dk_seg dksX4_hour_1 24 rfl rfl
theorem dksX4_hour_3 : cX4_hour.data.toList.drop 70 = dktX4_hour_3 := dk_seg dksX4_hour_2 23 rfl rfl
theorem dksX4_hour_4 : cX4_hour.data.toList.drop 94 = dktX4_hour_4 := dk_seg dksX4_hour_3 24 rfl rfl
theorem dksX4_hour_5 : cX4_hour.data.toList.drop 117 = dktX4_hour_5 := dk_seg dksX4_hour_4 23 rfl rfl
theorem dksX4_hour_6 : cX4_hour.data.toList.drop 140 = dktX4_hour_6 := dk_seg dksX4_hour_5 23 rfl rfl
theorem dksX4_hour_7 : cX4_hour.data.toList.drop 164 = dktX4_hour_7 := dk_seg dksX4_hour_6 24 rfl rfl
theorem dksX4_hour_8 : cX4_hour.data.toList.drop 186 = dktX4_hour_8 := dk_seg dksX4_hour_7 22 rfl rfl
theorem dksX4_hour_9 : cX4_hour.data.toList.drop 210 = dktX4_hour_9 := dk_seg dksX4_hour_8 24 rfl rfl
theorem dksX4_hour_10 : cX4_hour.data.toList.drop 232 = dktX4_hour_10 := dk_seg dksX4_hour_9 22 rfl rfl
theorem dX4_hour_0 : decode cX4_hour 0 = .ok (.iconst 0, 1) := dk_3 (dk_at dksX4_hour_0 0 rfl rfl)
theorem dX4_hour_1 : decode cX4_hour 1 = .ok (.istore_n 3, 1) := dk_62 (dk_at dksX4_hour_0 1 rfl rfl)
theorem dX4_hour_2 : decode cX4_hour 2 = .ok (.iload_n 3, 1) := dk_29 (dk_at dksX4_hour_0 2 rfl rfl)
theorem dX4_hour_3 : decode cX4_hour 3 = .ok (.iconst 3, 1) := dk_6 (dk_at dksX4_hour_0 3 rfl rfl)
theorem dX4_hour_4 : decode cX4_hour 4 = .ok (.if_icmp .ge 53, 3) := dk_162 0 53 (dk_at dksX4_hour_0 4 rfl rfl)
theorem dX4_hour_7 : decode cX4_hour 7 = .ok (.aload_n 0, 1) := dk_42 (dk_at dksX4_hour_0 7 rfl rfl)
theorem dX4_hour_8 : decode cX4_hour 8 = .ok (.getfield 43, 3) := dk_180 0 43 (dk_at dksX4_hour_0 8 rfl rfl)
theorem dX4_hour_11 : decode cX4_hour 11 = .ok (.iload_n 3, 1) := dk_29 (dk_at dksX4_hour_0 11 rfl rfl)
theorem dX4_hour_12 : decode cX4_hour 12 = .ok (.iaload, 1) := dk_46 (dk_at dksX4_hour_0 12 rfl rfl)
theorem dX4_hour_13 : decode cX4_hour 13 = .ok (.ifCond .le 38, 3) := dk_158 0 38 (dk_at dksX4_hour_0 13 rfl rfl)
theorem dX4_hour_16 : decode cX4_hour 16 = .ok (.aload_n 0, 1) := dk_42 (dk_at dksX4_hour_0 16 rfl rfl)
theorem dX4_hour_17 : decode cX4_hour 17 = .ok (.bipush 10, 2) := dk_16 10 (dk_at dksX4_hour_0 17 rfl rfl)
theorem dX4_hour_19 : decode cX4_hour 19 = .ok (.invokevirtual 362, 3) := dk_182 1 106 (dk_at dksX4_hour_0 19 rfl rfl)
theorem dX4_hour_22 : decode cX4_hour 22 = .ok (.aload_n 0, 1) := dk_42 (dk_at dksX4_hour_0 22 rfl rfl)
theorem dX4_hour_23 : decode cX4_hour 23 = .ok (.getfield 46, 3) := dk_180 0 46 (dk_at dksX4_hour_1 0 rfl rfl)
theorem dX4_hour_26 : decode cX4_hour 26 = .ok (.iload_n 3, 1) := dk_29 (dk_at dksX4_hour_1 3 rfl rfl)
theorem dX4_hour_27 : decode cX4_hour 27 = .ok (.iaload, 1) := dk_46 (dk_at dksX4_hour_1 4 rfl rfl)
theorem dX4_hour_28 : decode cX4_hour 28 = .ok (.if_icmp .ge 23, 3) := dk_162 0 23 (dk_at dksX4_hour_1 5 rfl rfl)
theorem dX4_hour_31 : decode cX4_hour 31 = .ok (.aload_n 0, 1) := dk_42 (dk_at dksX4_hour_1 8 rfl rfl)
theorem dX4_hour_32 : decode cX4_hour 32 = .ok (.getfield 43, 3) := dk_180 0 43 (dk_at dksX4_hour_1 9 rfl rfl)
theorem dX4_hour_35 : decode cX4_hour 35 = .ok (.iload_n 3, 1) := dk_29 (dk_at dksX4_hour_1 12 rfl rfl)
theorem dX4_hour_36 : decode cX4_hour 36 = .ok (.dup2, 1) := dk_92 (dk_at dksX4_hour_1 13 rfl rfl)
theorem dX4_hour_37 : decode cX4_hour 37 = .ok (.iaload, 1) := dk_46 (dk_at dksX4_hour_1 14 rfl rfl)
theorem dX4_hour_38 : decode cX4_hour 38 = .ok (.iconst 1, 1) := dk_4 (dk_at dksX4_hour_1 15 rfl rfl)
theorem dX4_hour_39 : decode cX4_hour 39 = .ok (.isub, 1) := dk_100 (dk_at dksX4_hour_1 16 rfl rfl)
theorem dX4_hour_40 : decode cX4_hour 40 = .ok (.iastore, 1) := dk_79 (dk_at dksX4_hour_1 17 rfl rfl)
theorem dX4_hour_41 : decode cX4_hour 41 = .ok (.aload_n 0, 1) := dk_42 (dk_at dksX4_hour_1 18 rfl rfl)
theorem dX4_hour_42 : decode cX4_hour 42 = .ok (.getfield 57, 3) := dk_180 0 57 (dk_at dksX4_hour_1 19 rfl rfl)
theorem dX4_hour_45 : decode cX4_hour 45 = .ok (.iconst 4, 1) := dk_7 (dk_at dksX4_hour_1 22 rfl rfl)
theorem dX4_hour_46 : decode cX4_hour 46 = .ok (.dup2, 1) := dk_92 (dk_at dksX4_hour_1 23 rfl rfl)
theorem dX4_hour_47 : decode cX4_hour 47 = .ok (.iaload, 1) := dk_46 (dk_at dksX4_hour_2 0 rfl rfl)
theorem dX4_hour_48 : decode cX4_hour 48 = .ok (.iconst 1, 1) := dk_4 (dk_at dksX4_hour_2 1 rfl rfl)
theorem dX4_hour_49 : decode cX4_hour 49 = .ok (.iadd, 1) := dk_96 (dk_at dksX4_hour_2 2 rfl rfl)
theorem dX4_hour_50 : decode cX4_hour 50 = .ok (.iastore, 1) := dk_79 (dk_at dksX4_hour_2 3 rfl rfl)
theorem dX4_hour_51 : decode cX4_hour 51 = .ok (.iinc 3 1, 3) := dk_132 3 1 (dk_at dksX4_hour_2 4 rfl rfl)
theorem dX4_hour_54 : decode cX4_hour 54 = .ok (.goto (-52), 3) := dk_167 255 204 (dk_at dksX4_hour_2 7 rfl rfl)
theorem dX4_hour_57 : decode cX4_hour 57 = .ok (.aload_n 0, 1) := dk_42 (dk_at dksX4_hour_2 10 rfl rfl)
theorem dX4_hour_58 : decode cX4_hour 58 = .ok (.getfield 57, 3) := dk_180 0 57 (dk_at dksX4_hour_2 11 rfl rfl)
theorem dX4_hour_61 : decode cX4_hour 61 = .ok (.iconst 0, 1) := dk_3 (dk_at dksX4_hour_2 14 rfl rfl)
theorem dX4_hour_62 : decode cX4_hour 62 = .ok (.dup2, 1) := dk_92 (dk_at dksX4_hour_2 15 rfl rfl)
theorem dX4_hour_63 : decode cX4_hour 63 = .ok (.iaload, 1) := dk_46 (dk_at dksX4_hour_2 16 rfl rfl)
theorem dX4_hour_64 : decode cX4_hour 64 = .ok (.iconst 1, 1) := dk_4 (dk_at dksX4_hour_2 17 rfl rfl)
theorem dX4_hour_65 : decode cX4_hour 65 = .ok (.iadd, 1) := dk_96 (dk_at dksX4_hour_2 18 rfl rfl)
theorem dX4_hour_66 : decode cX4_hour 66 = .ok (.iastore, 1) := dk_79 (dk_at dksX4_hour_2 19 rfl rfl)
theorem dX4_hour_67 : decode cX4_hour 67 = .ok (.aload_n 0, 1) := dk_42 (dk_at dksX4_hour_2 20 rfl rfl)
theorem dX4_hour_68 : decode cX4_hour 68 = .ok (.bipush 100, 2) := dk_16 100 (dk_at dksX4_hour_2 21 rfl rfl)
theorem dX4_hour_70 : decode cX4_hour 70 = .ok (.invokevirtual 362, 3) := dk_182 1 106 (dk_at dksX4_hour_3 0 rfl rfl)
theorem dX4_hour_73 : decode cX4_hour 73 = .ok (.istore_n 3, 1) := dk_62 (dk_at dksX4_hour_3 3 rfl rfl)
theorem dX4_hour_74 : decode cX4_hour 74 = .ok (.iconst 0, 1) := dk_3 (dk_at dksX4_hour_3 4 rfl rfl)
theorem dX4_hour_75 : decode cX4_hour 75 = .ok (.istore 4, 2) := dk_54 4 (dk_at dksX4_hour_3 5 rfl rfl)
theorem dX4_hour_77 : decode cX4_hour 77 = .ok (.iload 4, 2) := dk_21 4 (dk_at dksX4_hour_3 7 rfl rfl)
theorem dX4_hour_79 : decode cX4_hour 79 = .ok (.aload_n 0, 1) := dk_42 (dk_at dksX4_hour_3 9 rfl rfl)
theorem dX4_hour_80 : decode cX4_hour 80 = .ok (.getfield 85, 3) := dk_180 0 85 (dk_at dksX4_hour_3 10 rfl rfl)
theorem dX4_hour_83 : decode cX4_hour 83 = .ok (.if_icmp .ge 34, 3) := dk_162 0 34 (dk_at dksX4_hour_3 13 rfl rfl)
theorem dX4_hour_86 : decode cX4_hour 86 = .ok (.iload_n 3, 1) := dk_29 (dk_at dksX4_hour_3 16 rfl rfl)
theorem dX4_hour_87 : decode cX4_hour 87 = .ok (.aload_n 0, 1) := dk_42 (dk_at dksX4_hour_3 17 rfl rfl)
theorem dX4_hour_88 : decode cX4_hour 88 = .ok (.getfield 51, 3) := dk_180 0 51 (dk_at dksX4_hour_3 18 rfl rfl)
theorem dX4_hour_91 : decode cX4_hour 91 = .ok (.iload 4, 2) := dk_21 4 (dk_at dksX4_hour_3 21 rfl rfl)
theorem dX4_hour_93 : decode cX4_hour 93 = .ok (.aaload, 1) := dk_50 (dk_at dksX4_hour_3 23 rfl rfl)
theorem dX4_hour_94 : decode cX4_hour 94 = .ok (.iconst 1, 1) := dk_4 (dk_at dksX4_hour_4 0 rfl rfl)
theorem dX4_hour_95 : decode cX4_hour 95 = .ok (.iaload, 1) := dk_46 (dk_at dksX4_hour_4 1 rfl rfl)
theorem dX4_hour_96 : decode cX4_hour 96 = .ok (.if_icmp .lt 21, 3) := dk_161 0 21 (dk_at dksX4_hour_4 2 rfl rfl)
theorem dX4_hour_99 : decode cX4_hour 99 = .ok (.iload_n 3, 1) := dk_29 (dk_at dksX4_hour_4 5 rfl rfl)
theorem dX4_hour_100 : decode cX4_hour 100 = .ok (.aload_n 0, 1) := dk_42 (dk_at dksX4_hour_4 6 rfl rfl)
theorem dX4_hour_101 : decode cX4_hour 101 = .ok (.getfield 51, 3) := dk_180 0 51 (dk_at dksX4_hour_4 7 rfl rfl)
theorem dX4_hour_104 : decode cX4_hour 104 = .ok (.iload 4, 2) := dk_21 4 (dk_at dksX4_hour_4 10 rfl rfl)
theorem dX4_hour_106 : decode cX4_hour 106 = .ok (.aaload, 1) := dk_50 (dk_at dksX4_hour_4 12 rfl rfl)
theorem dX4_hour_107 : decode cX4_hour 107 = .ok (.iconst 1, 1) := dk_4 (dk_at dksX4_hour_4 13 rfl rfl)
theorem dX4_hour_108 : decode cX4_hour 108 = .ok (.iaload, 1) := dk_46 (dk_at dksX4_hour_4 14 rfl rfl)
theorem dX4_hour_109 : decode cX4_hour 109 = .ok (.isub, 1) := dk_100 (dk_at dksX4_hour_4 15 rfl rfl)
theorem dX4_hour_110 : decode cX4_hour 110 = .ok (.istore_n 3, 1) := dk_62 (dk_at dksX4_hour_4 16 rfl rfl)
theorem dX4_hour_111 : decode cX4_hour 111 = .ok (.iinc 4 1, 3) := dk_132 4 1 (dk_at dksX4_hour_4 17 rfl rfl)
theorem dX4_hour_114 : decode cX4_hour 114 = .ok (.goto (-37), 3) := dk_167 255 219 (dk_at dksX4_hour_4 20 rfl rfl)
theorem dX4_hour_117 : decode cX4_hour 117 = .ok (.iload 4, 2) := dk_21 4 (dk_at dksX4_hour_5 0 rfl rfl)
theorem dX4_hour_119 : decode cX4_hour 119 = .ok (.aload_n 0, 1) := dk_42 (dk_at dksX4_hour_5 2 rfl rfl)
theorem dX4_hour_120 : decode cX4_hour 120 = .ok (.getfield 85, 3) := dk_180 0 85 (dk_at dksX4_hour_5 3 rfl rfl)
theorem dX4_hour_123 : decode cX4_hour 123 = .ok (.if_icmp .ne 5, 3) := dk_160 0 5 (dk_at dksX4_hour_5 6 rfl rfl)
theorem dX4_hour_126 : decode cX4_hour 126 = .ok (.iconst 0, 1) := dk_3 (dk_at dksX4_hour_5 9 rfl rfl)
theorem dX4_hour_127 : decode cX4_hour 127 = .ok (.ireturn, 1) := dk_172 (dk_at dksX4_hour_5 10 rfl rfl)
theorem dX4_hour_128 : decode cX4_hour 128 = .ok (.aload_n 0, 1) := dk_42 (dk_at dksX4_hour_5 11 rfl rfl)
theorem dX4_hour_129 : decode cX4_hour 129 = .ok (.iload_n 1, 1) := dk_27 (dk_at dksX4_hour_5 12 rfl rfl)
theorem dX4_hour_130 : decode cX4_hour 130 = .ok (.iload_n 2, 1) := dk_28 (dk_at dksX4_hour_5 13 rfl rfl)
theorem dX4_hour_131 : decode cX4_hour 131 = .ok (.iload 4, 2) := dk_21 4 (dk_at dksX4_hour_5 14 rfl rfl)
theorem dX4_hour_133 : decode cX4_hour 133 = .ok (.aload_n 0, 1) := dk_42 (dk_at dksX4_hour_5 16 rfl rfl)
theorem dX4_hour_134 : decode cX4_hour 134 = .ok (.invokevirtual 129, 3) := dk_182 0 129 (dk_at dksX4_hour_5 17 rfl rfl)
theorem dX4_hour_137 : decode cX4_hour 137 = .ok (.invokevirtual 280, 3) := dk_182 1 24 (dk_at dksX4_hour_5 20 rfl rfl)
theorem dX4_hour_140 : decode cX4_hour 140 = .ok (.istore 5, 2) := dk_54 5 (dk_at dksX4_hour_6 0 rfl rfl)
theorem dX4_hour_142 : decode cX4_hour 142 = .ok (.iload 5, 2) := dk_21 5 (dk_at dksX4_hour_6 2 rfl rfl)
theorem dX4_hour_144 : decode cX4_hour 144 = .ok (.iconst (-1), 1) := dk_2 (dk_at dksX4_hour_6 4 rfl rfl)
theorem dX4_hour_145 : decode cX4_hour 145 = .ok (.if_icmp .eq 34, 3) := dk_159 0 34 (dk_at dksX4_hour_6 5 rfl rfl)
theorem dX4_hour_148 : decode cX4_hour 148 = .ok (.aload_n 0, 1) := dk_42 (dk_at dksX4_hour_6 8 rfl rfl)
theorem dX4_hour_149 : decode cX4_hour 149 = .ok (.getfield 43, 3) := dk_180 0 43 (dk_at dksX4_hour_6 9 rfl rfl)
theorem dX4_hour_152 : decode cX4_hour 152 = .ok (.iload 5, 2) := dk_21 5 (dk_at dksX4_hour_6 12 rfl rfl)
theorem dX4_hour_154 : decode cX4_hour 154 = .ok (.dup2, 1) := dk_92 (dk_at dksX4_hour_6 14 rfl rfl)
theorem dX4_hour_155 : decode cX4_hour 155 = .ok (.iaload, 1) := dk_46 (dk_at dksX4_hour_6 15 rfl rfl)
theorem dX4_hour_156 : decode cX4_hour 156 = .ok (.iconst 1, 1) := dk_4 (dk_at dksX4_hour_6 16 rfl rfl)
theorem dX4_hour_157 : decode cX4_hour 157 = .ok (.iadd, 1) := dk_96 (dk_at dksX4_hour_6 17 rfl rfl)
theorem dX4_hour_158 : decode cX4_hour 158 = .ok (.iastore, 1) := dk_79 (dk_at dksX4_hour_6 18 rfl rfl)
theorem dX4_hour_159 : decode cX4_hour 159 = .ok (.aload_n 0, 1) := dk_42 (dk_at dksX4_hour_6 19 rfl rfl)
theorem dX4_hour_160 : decode cX4_hour 160 = .ok (.getfield 57, 3) := dk_180 0 57 (dk_at dksX4_hour_6 20 rfl rfl)
theorem dX4_hour_163 : decode cX4_hour 163 = .ok (.iconst 1, 1) := dk_4 (dk_at dksX4_hour_6 23 rfl rfl)
theorem dX4_hour_164 : decode cX4_hour 164 = .ok (.dup2, 1) := dk_92 (dk_at dksX4_hour_7 0 rfl rfl)
theorem dX4_hour_165 : decode cX4_hour 165 = .ok (.iaload, 1) := dk_46 (dk_at dksX4_hour_7 1 rfl rfl)
theorem dX4_hour_166 : decode cX4_hour 166 = .ok (.iconst 1, 1) := dk_4 (dk_at dksX4_hour_7 2 rfl rfl)
theorem dX4_hour_167 : decode cX4_hour 167 = .ok (.iadd, 1) := dk_96 (dk_at dksX4_hour_7 3 rfl rfl)
theorem dX4_hour_168 : decode cX4_hour 168 = .ok (.iastore, 1) := dk_79 (dk_at dksX4_hour_7 4 rfl rfl)
theorem dX4_hour_169 : decode cX4_hour 169 = .ok (.aload_n 0, 1) := dk_42 (dk_at dksX4_hour_7 5 rfl rfl)
theorem dX4_hour_170 : decode cX4_hour 170 = .ok (.getfield 51, 3) := dk_180 0 51 (dk_at dksX4_hour_7 6 rfl rfl)
theorem dX4_hour_173 : decode cX4_hour 173 = .ok (.iload 4, 2) := dk_21 4 (dk_at dksX4_hour_7 9 rfl rfl)
theorem dX4_hour_175 : decode cX4_hour 175 = .ok (.aaload, 1) := dk_50 (dk_at dksX4_hour_7 11 rfl rfl)
theorem dX4_hour_176 : decode cX4_hour 176 = .ok (.iconst 2, 1) := dk_5 (dk_at dksX4_hour_7 12 rfl rfl)
theorem dX4_hour_177 : decode cX4_hour 177 = .ok (.iaload, 1) := dk_46 (dk_at dksX4_hour_7 13 rfl rfl)
theorem dX4_hour_178 : decode cX4_hour 178 = .ok (.ireturn, 1) := dk_172 (dk_at dksX4_hour_7 14 rfl rfl)
theorem dX4_hour_179 : decode cX4_hour 179 = .ok (.aload_n 0, 1) := dk_42 (dk_at dksX4_hour_7 15 rfl rfl)
theorem dX4_hour_180 : decode cX4_hour 180 = .ok (.bipush 10, 2) := dk_16 10 (dk_at dksX4_hour_7 16 rfl rfl)
theorem dX4_hour_182 : decode cX4_hour 182 = .ok (.invokevirtual 362, 3) := dk_182 1 106 (dk_at dksX4_hour_7 18 rfl rfl)
theorem dX4_hour_185 : decode cX4_hour 185 = .ok (.aload_n 0, 1) := dk_42 (dk_at dksX4_hour_7 21 rfl rfl)
theorem dX4_hour_186 : decode cX4_hour 186 = .ok (.getfield 54, 3) := dk_180 0 54 (dk_at dksX4_hour_8 0 rfl rfl)
theorem dX4_hour_189 : decode cX4_hour 189 = .ok (.iconst 0, 1) := dk_3 (dk_at dksX4_hour_8 3 rfl rfl)
theorem dX4_hour_190 : decode cX4_hour 190 = .ok (.iaload, 1) := dk_46 (dk_at dksX4_hour_8 4 rfl rfl)
theorem dX4_hour_191 : decode cX4_hour 191 = .ok (.if_icmp .ge 30, 3) := dk_162 0 30 (dk_at dksX4_hour_8 5 rfl rfl)
theorem dX4_hour_194 : decode cX4_hour 194 = .ok (.aload_n 0, 1) := dk_42 (dk_at dksX4_hour_8 8 rfl rfl)
theorem dX4_hour_195 : decode cX4_hour 195 = .ok (.getfield 57, 3) := dk_180 0 57 (dk_at dksX4_hour_8 9 rfl rfl)
theorem dX4_hour_198 : decode cX4_hour 198 = .ok (.iconst 2, 1) := dk_5 (dk_at dksX4_hour_8 12 rfl rfl)
theorem dX4_hour_199 : decode cX4_hour 199 = .ok (.dup2, 1) := dk_92 (dk_at dksX4_hour_8 13 rfl rfl)
theorem dX4_hour_200 : decode cX4_hour 200 = .ok (.iaload, 1) := dk_46 (dk_at dksX4_hour_8 14 rfl rfl)
theorem dX4_hour_201 : decode cX4_hour 201 = .ok (.iconst 1, 1) := dk_4 (dk_at dksX4_hour_8 15 rfl rfl)
theorem dX4_hour_202 : decode cX4_hour 202 = .ok (.iadd, 1) := dk_96 (dk_at dksX4_hour_8 16 rfl rfl)
theorem dX4_hour_203 : decode cX4_hour 203 = .ok (.iastore, 1) := dk_79 (dk_at dksX4_hour_8 17 rfl rfl)
theorem dX4_hour_204 : decode cX4_hour 204 = .ok (.aload_n 0, 1) := dk_42 (dk_at dksX4_hour_8 18 rfl rfl)
theorem dX4_hour_205 : decode cX4_hour 205 = .ok (.getfield 51, 3) := dk_180 0 51 (dk_at dksX4_hour_8 19 rfl rfl)
theorem dX4_hour_208 : decode cX4_hour 208 = .ok (.iload 4, 2) := dk_21 4 (dk_at dksX4_hour_8 22 rfl rfl)
theorem dX4_hour_210 : decode cX4_hour 210 = .ok (.aaload, 1) := dk_50 (dk_at dksX4_hour_9 0 rfl rfl)
theorem dX4_hour_211 : decode cX4_hour 211 = .ok (.iconst 2, 1) := dk_5 (dk_at dksX4_hour_9 1 rfl rfl)
theorem dX4_hour_212 : decode cX4_hour 212 = .ok (.iaload, 1) := dk_46 (dk_at dksX4_hour_9 2 rfl rfl)
theorem dX4_hour_213 : decode cX4_hour 213 = .ok (.aload_n 0, 1) := dk_42 (dk_at dksX4_hour_9 3 rfl rfl)
theorem dX4_hour_214 : decode cX4_hour 214 = .ok (.getfield 54, 3) := dk_180 0 54 (dk_at dksX4_hour_9 4 rfl rfl)
theorem dX4_hour_217 : decode cX4_hour 217 = .ok (.iconst 1, 1) := dk_4 (dk_at dksX4_hour_9 7 rfl rfl)
theorem dX4_hour_218 : decode cX4_hour 218 = .ok (.iaload, 1) := dk_46 (dk_at dksX4_hour_9 8 rfl rfl)
theorem dX4_hour_219 : decode cX4_hour 219 = .ok (.isub, 1) := dk_100 (dk_at dksX4_hour_9 9 rfl rfl)
theorem dX4_hour_220 : decode cX4_hour 220 = .ok (.ireturn, 1) := dk_172 (dk_at dksX4_hour_9 10 rfl rfl)
theorem dX4_hour_221 : decode cX4_hour 221 = .ok (.aload_n 0, 1) := dk_42 (dk_at dksX4_hour_9 11 rfl rfl)
theorem dX4_hour_222 : decode cX4_hour 222 = .ok (.getfield 57, 3) := dk_180 0 57 (dk_at dksX4_hour_9 12 rfl rfl)
theorem dX4_hour_225 : decode cX4_hour 225 = .ok (.iconst 3, 1) := dk_6 (dk_at dksX4_hour_9 15 rfl rfl)
theorem dX4_hour_226 : decode cX4_hour 226 = .ok (.dup2, 1) := dk_92 (dk_at dksX4_hour_9 16 rfl rfl)
theorem dX4_hour_227 : decode cX4_hour 227 = .ok (.iaload, 1) := dk_46 (dk_at dksX4_hour_9 17 rfl rfl)
theorem dX4_hour_228 : decode cX4_hour 228 = .ok (.iconst 1, 1) := dk_4 (dk_at dksX4_hour_9 18 rfl rfl)
theorem dX4_hour_229 : decode cX4_hour 229 = .ok (.iadd, 1) := dk_96 (dk_at dksX4_hour_9 19 rfl rfl)
theorem dX4_hour_230 : decode cX4_hour 230 = .ok (.iastore, 1) := dk_79 (dk_at dksX4_hour_9 20 rfl rfl)
theorem dX4_hour_231 : decode cX4_hour 231 = .ok (.aload_n 0, 1) := dk_42 (dk_at dksX4_hour_9 21 rfl rfl)
theorem dX4_hour_232 : decode cX4_hour 232 = .ok (.getfield 51, 3) := dk_180 0 51 (dk_at dksX4_hour_10 0 rfl rfl)
theorem dX4_hour_235 : decode cX4_hour 235 = .ok (.iload 4, 2) := dk_21 4 (dk_at dksX4_hour_10 3 rfl rfl)
theorem dX4_hour_237 : decode cX4_hour 237 = .ok (.aaload, 1) := dk_50 (dk_at dksX4_hour_10 5 rfl rfl)
theorem dX4_hour_238 : decode cX4_hour 238 = .ok (.iconst 3, 1) := dk_6 (dk_at dksX4_hour_10 6 rfl rfl)
theorem dX4_hour_239 : decode cX4_hour 239 = .ok (.iaload, 1) := dk_46 (dk_at dksX4_hour_10 7 rfl rfl)
theorem dX4_hour_240 : decode cX4_hour 240 = .ok (.ineg, 1) := dk_116 (dk_at dksX4_hour_10 8 rfl rfl)
theorem dX4_hour_241 : decode cX4_hour 241 = .ok (.ireturn, 1) := dk_172 (dk_at dksX4_hour_10 9 rfl rfl)
abbrev cX4_draw : ByteArray := prog_19_method_85_code
def yX4_draw : MethodName := ⟨RX4, "draw", "(I)I"⟩
def dkwX4_draw_1 : List UInt8 := [112, 172]
abbrev dktX4_draw_1 : List UInt8 := dkwX4_draw_1 ++ []
def dkwX4_draw_0 : List UInt8 := [42, 42, 180, 0, 60, 19, 1, 105, 104, 17, 48, 57, 96, 181, 0, 60, 42, 180, 0, 60, 16, 16, 124, 27]
abbrev dktX4_draw_0 : List UInt8 := dkwX4_draw_0 ++ dktX4_draw_1
theorem dksX4_draw_0 : cX4_draw.data.toList.drop 0 = dktX4_draw_0 := by decide +kernel
theorem dksX4_draw_1 : cX4_draw.data.toList.drop 24 = dktX4_draw_1 := dk_seg dksX4_draw_0 24 rfl rfl
theorem dX4_draw_0 : decode cX4_draw 0 = .ok (.aload_n 0, 1) := dk_42 (dk_at dksX4_draw_0 0 rfl rfl)
theorem dX4_draw_1 : decode cX4_draw 1 = .ok (.aload_n 0, 1) := dk_42 (dk_at dksX4_draw_0 1 rfl rfl)
theorem dX4_draw_2 : decode cX4_draw 2 = .ok (.getfield 60, 3) := dk_180 0 60 (dk_at dksX4_draw_0 2 rfl rfl)
theorem dX4_draw_5 : decode cX4_draw 5 = .ok (.ldc_w 361, 3) := dk_19 1 105 (dk_at dksX4_draw_0 5 rfl rfl)
theorem dX4_draw_8 : decode cX4_draw 8 = .ok (.imul, 1) := dk_104 (dk_at dksX4_draw_0 8 rfl rfl)
theorem dX4_draw_9 : decode cX4_draw 9 = .ok (.sipush 12345, 3) := dk_17 48 57 (dk_at dksX4_draw_0 9 rfl rfl)
theorem dX4_draw_12 : decode cX4_draw 12 = .ok (.iadd, 1) := dk_96 (dk_at dksX4_draw_0 12 rfl rfl)
theorem dX4_draw_13 : decode cX4_draw 13 = .ok (.putfield 60, 3) := dk_181 0 60 (dk_at dksX4_draw_0 13 rfl rfl)
theorem dX4_draw_16 : decode cX4_draw 16 = .ok (.aload_n 0, 1) := dk_42 (dk_at dksX4_draw_0 16 rfl rfl)
theorem dX4_draw_17 : decode cX4_draw 17 = .ok (.getfield 60, 3) := dk_180 0 60 (dk_at dksX4_draw_0 17 rfl rfl)
theorem dX4_draw_20 : decode cX4_draw 20 = .ok (.bipush 16, 2) := dk_16 16 (dk_at dksX4_draw_0 20 rfl rfl)
theorem dX4_draw_22 : decode cX4_draw 22 = .ok (.iushr, 1) := dk_124 (dk_at dksX4_draw_0 22 rfl rfl)
theorem dX4_draw_23 : decode cX4_draw 23 = .ok (.iload_n 1, 1) := dk_27 (dk_at dksX4_draw_0 23 rfl rfl)
theorem dX4_draw_24 : decode cX4_draw 24 = .ok (.irem, 1) := dk_112 (dk_at dksX4_draw_1 0 rfl rfl)
theorem dX4_draw_25 : decode cX4_draw 25 = .ok (.ireturn, 1) := dk_172 (dk_at dksX4_draw_1 1 rfl rfl)
abbrev cX4_day : ByteArray := prog_19_method_88_code
def yX4_day : MethodName := ⟨RX4, "day", "(I)I"⟩
def dkwX4_day_1 : List UInt8 := [182, 0, 110, 19, 1, 111, 100, 172]
abbrev dktX4_day_1 : List UInt8 := dkwX4_day_1 ++ []
def dkwX4_day_0 : List UInt8 := [27, 133, 9, 20, 1, 115, 184, 0, 88, 153, 0, 12, 42, 180, 0, 57, 27, 46, 167, 0, 13, 42, 16, 254]
abbrev dktX4_day_0 : List UInt8 := dkwX4_day_0 ++ dktX4_day_1
theorem dksX4_day_0 : cX4_day.data.toList.drop 0 = dktX4_day_0 := by decide +kernel
theorem dksX4_day_1 : cX4_day.data.toList.drop 24 = dktX4_day_1 := dk_seg dksX4_day_0 24 rfl rfl
theorem dX4_day_0 : decode cX4_day 0 = .ok (.iload_n 1, 1) := dk_27 (dk_at dksX4_day_0 0 rfl rfl)
theorem dX4_day_1 : decode cX4_day 1 = .ok (.i2l, 1) := dk_133 (dk_at dksX4_day_0 1 rfl rfl)
theorem dX4_day_2 : decode cX4_day 2 = .ok (.lconst 0, 1) := dk_9 (dk_at dksX4_day_0 2 rfl rfl)
theorem dX4_day_3 : decode cX4_day 3 = .ok (.ldc2_w 371, 3) := dk_20 1 115 (dk_at dksX4_day_0 3 rfl rfl)
theorem dX4_day_6 : decode cX4_day 6 = .ok (.invokestatic 88, 3) := dk_184 0 88 (dk_at dksX4_day_0 6 rfl rfl)
theorem dX4_day_9 : decode cX4_day 9 = .ok (.ifCond .eq 12, 3) := dk_153 0 12 (dk_at dksX4_day_0 9 rfl rfl)
theorem dX4_day_12 : decode cX4_day 12 = .ok (.aload_n 0, 1) := dk_42 (dk_at dksX4_day_0 12 rfl rfl)
theorem dX4_day_13 : decode cX4_day 13 = .ok (.getfield 57, 3) := dk_180 0 57 (dk_at dksX4_day_0 13 rfl rfl)
theorem dX4_day_16 : decode cX4_day 16 = .ok (.iload_n 1, 1) := dk_27 (dk_at dksX4_day_0 16 rfl rfl)
theorem dX4_day_17 : decode cX4_day 17 = .ok (.iaload, 1) := dk_46 (dk_at dksX4_day_0 17 rfl rfl)
theorem dX4_day_18 : decode cX4_day 18 = .ok (.goto 13, 3) := dk_167 0 13 (dk_at dksX4_day_0 18 rfl rfl)
theorem dX4_day_21 : decode cX4_day 21 = .ok (.aload_n 0, 1) := dk_42 (dk_at dksX4_day_0 21 rfl rfl)
theorem dX4_day_22 : decode cX4_day 22 = .ok (.bipush (-2), 2) := dk_16 254 (dk_at dksX4_day_0 22 rfl rfl)
theorem dX4_day_24 : decode cX4_day 24 = .ok (.invokevirtual 110, 3) := dk_182 0 110 (dk_at dksX4_day_1 0 rfl rfl)
theorem dX4_day_27 : decode cX4_day 27 = .ok (.ldc_w 367, 3) := dk_19 1 111 (dk_at dksX4_day_1 3 rfl rfl)
theorem dX4_day_30 : decode cX4_day 30 = .ok (.isub, 1) := dk_100 (dk_at dksX4_day_1 6 rfl rfl)
theorem dX4_day_31 : decode cX4_day 31 = .ok (.ireturn, 1) := dk_172 (dk_at dksX4_day_1 7 rfl rfl)
abbrev cX4_seed : ByteArray := prog_19_method_89_code
def yX4_seed : MethodName := ⟨RX4, "seed", "(I)I"⟩
def dkwX4_seed_0 : List UInt8 := [42, 180, 0, 60, 61, 42, 27, 181, 0, 60, 28, 172]
abbrev dktX4_seed_0 : List UInt8 := dkwX4_seed_0 ++ []
theorem dksX4_seed_0 : cX4_seed.data.toList.drop 0 = dktX4_seed_0 := by decide +kernel
theorem dX4_seed_0 : decode cX4_seed 0 = .ok (.aload_n 0, 1) := dk_42 (dk_at dksX4_seed_0 0 rfl rfl)
theorem dX4_seed_1 : decode cX4_seed 1 = .ok (.getfield 60, 3) := dk_180 0 60 (dk_at dksX4_seed_0 1 rfl rfl)
theorem dX4_seed_4 : decode cX4_seed 4 = .ok (.istore_n 2, 1) := dk_61 (dk_at dksX4_seed_0 4 rfl rfl)
theorem dX4_seed_5 : decode cX4_seed 5 = .ok (.aload_n 0, 1) := dk_42 (dk_at dksX4_seed_0 5 rfl rfl)
theorem dX4_seed_6 : decode cX4_seed 6 = .ok (.iload_n 1, 1) := dk_27 (dk_at dksX4_seed_0 6 rfl rfl)
theorem dX4_seed_7 : decode cX4_seed 7 = .ok (.putfield 60, 3) := dk_181 0 60 (dk_at dksX4_seed_0 7 rfl rfl)
theorem dX4_seed_10 : decode cX4_seed 10 = .ok (.iload_n 2, 1) := dk_28 (dk_at dksX4_seed_0 10 rfl rfl)
theorem dX4_seed_11 : decode cX4_seed 11 = .ok (.ireturn, 1) := dk_172 (dk_at dksX4_seed_0 11 rfl rfl)
abbrev cX4_image : ByteArray := prog_19_method_92_code
def yX4_image : MethodName := ⟨RX4, "image", "()I"⟩
def dkwX4_image_1 : List UInt8 := [182, 0, 246, 4, 172]
abbrev dktX4_image_1 : List UInt8 := dkwX4_image_1 ++ []
def dkwX4_image_0 : List UInt8 := [42, 180, 1, 117, 199, 0, 14, 42, 187, 0, 8, 89, 183, 1, 91, 181, 1, 117, 42, 180, 1, 117, 42]
abbrev dktX4_image_0 : List UInt8 := dkwX4_image_0 ++ dktX4_image_1
theorem dksX4_image_0 : cX4_image.data.toList.drop 0 = dktX4_image_0 := by decide +kernel
theorem dksX4_image_1 : cX4_image.data.toList.drop 23 = dktX4_image_1 := dk_seg dksX4_image_0 23 rfl rfl
theorem dX4_image_0 : decode cX4_image 0 = .ok (.aload_n 0, 1) := dk_42 (dk_at dksX4_image_0 0 rfl rfl)
theorem dX4_image_1 : decode cX4_image 1 = .ok (.getfield 373, 3) := dk_180 1 117 (dk_at dksX4_image_0 1 rfl rfl)
theorem dX4_image_4 : decode cX4_image 4 = .ok (.ifnonnull 14, 3) := dk_199 0 14 (dk_at dksX4_image_0 4 rfl rfl)
theorem dX4_image_7 : decode cX4_image 7 = .ok (.aload_n 0, 1) := dk_42 (dk_at dksX4_image_0 7 rfl rfl)
theorem dX4_image_8 : decode cX4_image 8 = .ok (.new 8, 3) := dk_187 0 8 (dk_at dksX4_image_0 8 rfl rfl)
theorem dX4_image_11 : decode cX4_image 11 = .ok (.dup, 1) := dk_89 (dk_at dksX4_image_0 11 rfl rfl)
theorem dX4_image_12 : decode cX4_image 12 = .ok (.invokespecial 347, 3) := dk_183 1 91 (dk_at dksX4_image_0 12 rfl rfl)
theorem dX4_image_15 : decode cX4_image 15 = .ok (.putfield 373, 3) := dk_181 1 117 (dk_at dksX4_image_0 15 rfl rfl)
theorem dX4_image_18 : decode cX4_image 18 = .ok (.aload_n 0, 1) := dk_42 (dk_at dksX4_image_0 18 rfl rfl)
theorem dX4_image_19 : decode cX4_image 19 = .ok (.getfield 373, 3) := dk_180 1 117 (dk_at dksX4_image_0 19 rfl rfl)
theorem dX4_image_22 : decode cX4_image 22 = .ok (.aload_n 0, 1) := dk_42 (dk_at dksX4_image_0 22 rfl rfl)
theorem dX4_image_23 : decode cX4_image 23 = .ok (.invokevirtual 246, 3) := dk_182 0 246 (dk_at dksX4_image_1 0 rfl rfl)
theorem dX4_image_26 : decode cX4_image 26 = .ok (.iconst 1, 1) := dk_4 (dk_at dksX4_image_1 3 rfl rfl)
theorem dX4_image_27 : decode cX4_image 27 = .ok (.ireturn, 1) := dk_172 (dk_at dksX4_image_1 4 rfl rfl)
abbrev cX4_back : ByteArray := prog_19_method_93_code
def yX4_back : MethodName := ⟨RX4, "back", "()I"⟩
def dkwX4_back_0 : List UInt8 := [42, 180, 1, 117, 199, 0, 10, 42, 16, 251, 182, 0, 110, 172, 42, 42, 180, 1, 117, 182, 0, 246, 4, 172]
abbrev dktX4_back_0 : List UInt8 := dkwX4_back_0 ++ []
theorem dksX4_back_0 : cX4_back.data.toList.drop 0 = dktX4_back_0 := by decide +kernel
theorem dX4_back_0 : decode cX4_back 0 = .ok (.aload_n 0, 1) := dk_42 (dk_at dksX4_back_0 0 rfl rfl)
theorem dX4_back_1 : decode cX4_back 1 = .ok (.getfield 373, 3) := dk_180 1 117 (dk_at dksX4_back_0 1 rfl rfl)
theorem dX4_back_4 : decode cX4_back 4 = .ok (.ifnonnull 10, 3) := dk_199 0 10 (dk_at dksX4_back_0 4 rfl rfl)
theorem dX4_back_7 : decode cX4_back 7 = .ok (.aload_n 0, 1) := dk_42 (dk_at dksX4_back_0 7 rfl rfl)
theorem dX4_back_8 : decode cX4_back 8 = .ok (.bipush (-5), 2) := dk_16 251 (dk_at dksX4_back_0 8 rfl rfl)
theorem dX4_back_10 : decode cX4_back 10 = .ok (.invokevirtual 110, 3) := dk_182 0 110 (dk_at dksX4_back_0 10 rfl rfl)
theorem dX4_back_13 : decode cX4_back 13 = .ok (.ireturn, 1) := dk_172 (dk_at dksX4_back_0 13 rfl rfl)
theorem dX4_back_14 : decode cX4_back 14 = .ok (.aload_n 0, 1) := dk_42 (dk_at dksX4_back_0 14 rfl rfl)
theorem dX4_back_15 : decode cX4_back 15 = .ok (.aload_n 0, 1) := dk_42 (dk_at dksX4_back_0 15 rfl rfl)
theorem dX4_back_16 : decode cX4_back 16 = .ok (.getfield 373, 3) := dk_180 1 117 (dk_at dksX4_back_0 16 rfl rfl)
theorem dX4_back_19 : decode cX4_back 19 = .ok (.invokevirtual 246, 3) := dk_182 0 246 (dk_at dksX4_back_0 19 rfl rfl)
theorem dX4_back_22 : decode cX4_back 22 = .ok (.iconst 1, 1) := dk_4 (dk_at dksX4_back_0 22 rfl rfl)
theorem dX4_back_23 : decode cX4_back 23 = .ok (.ireturn, 1) := dk_172 (dk_at dksX4_back_0 23 rfl rfl)
abbrev cX4_status : ByteArray := prog_19_method_94_code
def yX4_status : MethodName := ⟨RX4, "status", "(I)I"⟩
def dkwX4_status_6 : List UInt8 := [27, 16, 10, 100, 46, 167, 0, 4, 2, 172]
abbrev dktX4_status_6 : List UInt8 := dkwX4_status_6 ++ []
def dkwX4_status_5 : List UInt8 := [27, 16, 10, 100, 46, 172, 27, 133, 20, 1, 120, 20, 1, 122, 184, 0, 88, 153, 0, 15, 42, 180, 0, 37]
abbrev dktX4_status_5 : List UInt8 := dkwX4_status_5 ++ dktX4_status_6
def dkwX4_status_4 : List UInt8 := [29, 46, 153, 0, 7, 4, 167, 0, 4, 3, 96, 61, 132, 3, 1, 167, 255, 230, 28, 172, 42, 180, 0, 54]
abbrev dktX4_status_4 : List UInt8 := dkwX4_status_4 ++ dktX4_status_5
def dkwX4_status_3 : List UInt8 := [180, 0, 159, 172, 42, 180, 0, 60, 172, 3, 61, 3, 62, 29, 16, 8, 162, 0, 26, 28, 42, 180, 0, 7]
abbrev dktX4_status_3 : List UInt8 := dkwX4_status_3 ++ dktX4_status_4
def dkwX4_status_2 : List UInt8 := [42, 180, 0, 85, 172, 42, 180, 0, 40, 27, 4, 100, 46, 172, 42, 180, 0, 43, 27, 7, 100, 46, 172, 42]
abbrev dktX4_status_2 : List UInt8 := dkwX4_status_2 ++ dktX4_status_3
def dkwX4_status_1 : List UInt8 := [170, 0, 0, 0, 0, 0, 141, 0, 0, 0, 0, 0, 0, 0, 11, 0, 0, 0, 63, 0, 0, 0, 68, 0, 0, 0, 68, 0, 0, 0, 68, 0, 0, 0, 77, 0, 0, 0, 77, 0, 0, 0, 77, 0, 0, 0, 86, 0, 0, 0, 91, 0, 0, 0, 96, 0, 0, 0, 131, 0, 0, 0, 131]
abbrev dktX4_status_1 : List UInt8 := dkwX4_status_1 ++ dktX4_status_2
def dkwX4_status_0 : List UInt8 := [27]
abbrev dktX4_status_0 : List UInt8 := dkwX4_status_0 ++ dktX4_status_1
theorem dksX4_status_0 : cX4_status.data.toList.drop 0 = dktX4_status_0 := by decide +kernel
theorem dksX4_status_1 : cX4_status.data.toList.drop 1 = dktX4_status_1 := dk_seg dksX4_status_0 1 rfl rfl
theorem dksX4_status_2 : cX4_status.data.toList.drop 64 = dktX4_status_2 := dk_seg dksX4_status_1 63 rfl rfl
theorem dksX4_status_3 : cX4_status.data.toList.drop 88 = dktX4_status_3 := dk_seg dksX4_status_2 24 rfl rfl
theorem dksX4_status_4 : cX4_status.data.toList.drop 112 = dktX4_status_4 := dk_seg dksX4_status_3 24 rfl rfl
theorem dksX4_status_5 : cX4_status.data.toList.drop 136 = dktX4_status_5 := dk_seg dksX4_status_4 24 rfl rfl
theorem dksX4_status_6 : cX4_status.data.toList.drop 160 = dktX4_status_6 := dk_seg dksX4_status_5 24 rfl rfl
theorem dX4_status_0 : decode cX4_status 0 = .ok (.iload_n 1, 1) := dk_27 (dk_at dksX4_status_0 0 rfl rfl)
theorem dX4_status_1 : decode cX4_status 1 = .ok (.tableswitch 141 0 11 #[63, 68, 68, 68, 77, 77, 77, 86, 91, 96, 131, 131], 63) := by decide +kernel
theorem dX4_status_64 : decode cX4_status 64 = .ok (.aload_n 0, 1) := dk_42 (dk_at dksX4_status_2 0 rfl rfl)
theorem dX4_status_65 : decode cX4_status 65 = .ok (.getfield 85, 3) := dk_180 0 85 (dk_at dksX4_status_2 1 rfl rfl)
theorem dX4_status_68 : decode cX4_status 68 = .ok (.ireturn, 1) := dk_172 (dk_at dksX4_status_2 4 rfl rfl)
theorem dX4_status_69 : decode cX4_status 69 = .ok (.aload_n 0, 1) := dk_42 (dk_at dksX4_status_2 5 rfl rfl)
theorem dX4_status_70 : decode cX4_status 70 = .ok (.getfield 40, 3) := dk_180 0 40 (dk_at dksX4_status_2 6 rfl rfl)
theorem dX4_status_73 : decode cX4_status 73 = .ok (.iload_n 1, 1) := dk_27 (dk_at dksX4_status_2 9 rfl rfl)
theorem dX4_status_74 : decode cX4_status 74 = .ok (.iconst 1, 1) := dk_4 (dk_at dksX4_status_2 10 rfl rfl)
theorem dX4_status_75 : decode cX4_status 75 = .ok (.isub, 1) := dk_100 (dk_at dksX4_status_2 11 rfl rfl)
theorem dX4_status_76 : decode cX4_status 76 = .ok (.iaload, 1) := dk_46 (dk_at dksX4_status_2 12 rfl rfl)
theorem dX4_status_77 : decode cX4_status 77 = .ok (.ireturn, 1) := dk_172 (dk_at dksX4_status_2 13 rfl rfl)
theorem dX4_status_78 : decode cX4_status 78 = .ok (.aload_n 0, 1) := dk_42 (dk_at dksX4_status_2 14 rfl rfl)
theorem dX4_status_79 : decode cX4_status 79 = .ok (.getfield 43, 3) := dk_180 0 43 (dk_at dksX4_status_2 15 rfl rfl)
theorem dX4_status_82 : decode cX4_status 82 = .ok (.iload_n 1, 1) := dk_27 (dk_at dksX4_status_2 18 rfl rfl)
theorem dX4_status_83 : decode cX4_status 83 = .ok (.iconst 4, 1) := dk_7 (dk_at dksX4_status_2 19 rfl rfl)
theorem dX4_status_84 : decode cX4_status 84 = .ok (.isub, 1) := dk_100 (dk_at dksX4_status_2 20 rfl rfl)
theorem dX4_status_85 : decode cX4_status 85 = .ok (.iaload, 1) := dk_46 (dk_at dksX4_status_2 21 rfl rfl)
theorem dX4_status_86 : decode cX4_status 86 = .ok (.ireturn, 1) := dk_172 (dk_at dksX4_status_2 22 rfl rfl)
theorem dX4_status_87 : decode cX4_status 87 = .ok (.aload_n 0, 1) := dk_42 (dk_at dksX4_status_2 23 rfl rfl)
theorem dX4_status_88 : decode cX4_status 88 = .ok (.getfield 159, 3) := dk_180 0 159 (dk_at dksX4_status_3 0 rfl rfl)
theorem dX4_status_91 : decode cX4_status 91 = .ok (.ireturn, 1) := dk_172 (dk_at dksX4_status_3 3 rfl rfl)
theorem dX4_status_92 : decode cX4_status 92 = .ok (.aload_n 0, 1) := dk_42 (dk_at dksX4_status_3 4 rfl rfl)
theorem dX4_status_93 : decode cX4_status 93 = .ok (.getfield 60, 3) := dk_180 0 60 (dk_at dksX4_status_3 5 rfl rfl)
theorem dX4_status_96 : decode cX4_status 96 = .ok (.ireturn, 1) := dk_172 (dk_at dksX4_status_3 8 rfl rfl)
theorem dX4_status_97 : decode cX4_status 97 = .ok (.iconst 0, 1) := dk_3 (dk_at dksX4_status_3 9 rfl rfl)
theorem dX4_status_98 : decode cX4_status 98 = .ok (.istore_n 2, 1) := dk_61 (dk_at dksX4_status_3 10 rfl rfl)
theorem dX4_status_99 : decode cX4_status 99 = .ok (.iconst 0, 1) := dk_3 (dk_at dksX4_status_3 11 rfl rfl)
theorem dX4_status_100 : decode cX4_status 100 = .ok (.istore_n 3, 1) := dk_62 (dk_at dksX4_status_3 12 rfl rfl)
theorem dX4_status_101 : decode cX4_status 101 = .ok (.iload_n 3, 1) := dk_29 (dk_at dksX4_status_3 13 rfl rfl)
theorem dX4_status_102 : decode cX4_status 102 = .ok (.bipush 8, 2) := dk_16 8 (dk_at dksX4_status_3 14 rfl rfl)
theorem dX4_status_104 : decode cX4_status 104 = .ok (.if_icmp .ge 26, 3) := dk_162 0 26 (dk_at dksX4_status_3 16 rfl rfl)
theorem dX4_status_107 : decode cX4_status 107 = .ok (.iload_n 2, 1) := dk_28 (dk_at dksX4_status_3 19 rfl rfl)
theorem dX4_status_108 : decode cX4_status 108 = .ok (.aload_n 0, 1) := dk_42 (dk_at dksX4_status_3 20 rfl rfl)
theorem dX4_status_109 : decode cX4_status 109 = .ok (.getfield 7, 3) := dk_180 0 7 (dk_at dksX4_status_3 21 rfl rfl)
theorem dX4_status_112 : decode cX4_status 112 = .ok (.iload_n 3, 1) := dk_29 (dk_at dksX4_status_4 0 rfl rfl)
theorem dX4_status_113 : decode cX4_status 113 = .ok (.iaload, 1) := dk_46 (dk_at dksX4_status_4 1 rfl rfl)
theorem dX4_status_114 : decode cX4_status 114 = .ok (.ifCond .eq 7, 3) := dk_153 0 7 (dk_at dksX4_status_4 2 rfl rfl)
theorem dX4_status_117 : decode cX4_status 117 = .ok (.iconst 1, 1) := dk_4 (dk_at dksX4_status_4 5 rfl rfl)
theorem dX4_status_118 : decode cX4_status 118 = .ok (.goto 4, 3) := dk_167 0 4 (dk_at dksX4_status_4 6 rfl rfl)
theorem dX4_status_121 : decode cX4_status 121 = .ok (.iconst 0, 1) := dk_3 (dk_at dksX4_status_4 9 rfl rfl)
theorem dX4_status_122 : decode cX4_status 122 = .ok (.iadd, 1) := dk_96 (dk_at dksX4_status_4 10 rfl rfl)
theorem dX4_status_123 : decode cX4_status 123 = .ok (.istore_n 2, 1) := dk_61 (dk_at dksX4_status_4 11 rfl rfl)
theorem dX4_status_124 : decode cX4_status 124 = .ok (.iinc 3 1, 3) := dk_132 3 1 (dk_at dksX4_status_4 12 rfl rfl)
theorem dX4_status_127 : decode cX4_status 127 = .ok (.goto (-26), 3) := dk_167 255 230 (dk_at dksX4_status_4 15 rfl rfl)
theorem dX4_status_130 : decode cX4_status 130 = .ok (.iload_n 2, 1) := dk_28 (dk_at dksX4_status_4 18 rfl rfl)
theorem dX4_status_131 : decode cX4_status 131 = .ok (.ireturn, 1) := dk_172 (dk_at dksX4_status_4 19 rfl rfl)
theorem dX4_status_132 : decode cX4_status 132 = .ok (.aload_n 0, 1) := dk_42 (dk_at dksX4_status_4 20 rfl rfl)
theorem dX4_status_133 : decode cX4_status 133 = .ok (.getfield 54, 3) := dk_180 0 54 (dk_at dksX4_status_4 21 rfl rfl)
theorem dX4_status_136 : decode cX4_status 136 = .ok (.iload_n 1, 1) := dk_27 (dk_at dksX4_status_5 0 rfl rfl)
theorem dX4_status_137 : decode cX4_status 137 = .ok (.bipush 10, 2) := dk_16 10 (dk_at dksX4_status_5 1 rfl rfl)
theorem dX4_status_139 : decode cX4_status 139 = .ok (.isub, 1) := dk_100 (dk_at dksX4_status_5 3 rfl rfl)
theorem dX4_status_140 : decode cX4_status 140 = .ok (.iaload, 1) := dk_46 (dk_at dksX4_status_5 4 rfl rfl)
theorem dX4_status_141 : decode cX4_status 141 = .ok (.ireturn, 1) := dk_172 (dk_at dksX4_status_5 5 rfl rfl)
theorem dX4_status_142 : decode cX4_status 142 = .ok (.iload_n 1, 1) := dk_27 (dk_at dksX4_status_5 6 rfl rfl)
theorem dX4_status_143 : decode cX4_status 143 = .ok (.i2l, 1) := dk_133 (dk_at dksX4_status_5 7 rfl rfl)
theorem dX4_status_144 : decode cX4_status 144 = .ok (.ldc2_w 376, 3) := dk_20 1 120 (dk_at dksX4_status_5 8 rfl rfl)
theorem dX4_status_147 : decode cX4_status 147 = .ok (.ldc2_w 378, 3) := dk_20 1 122 (dk_at dksX4_status_5 11 rfl rfl)
theorem dX4_status_150 : decode cX4_status 150 = .ok (.invokestatic 88, 3) := dk_184 0 88 (dk_at dksX4_status_5 14 rfl rfl)
theorem dX4_status_153 : decode cX4_status 153 = .ok (.ifCond .eq 15, 3) := dk_153 0 15 (dk_at dksX4_status_5 17 rfl rfl)
theorem dX4_status_156 : decode cX4_status 156 = .ok (.aload_n 0, 1) := dk_42 (dk_at dksX4_status_5 20 rfl rfl)
theorem dX4_status_157 : decode cX4_status 157 = .ok (.getfield 37, 3) := dk_180 0 37 (dk_at dksX4_status_5 21 rfl rfl)
theorem dX4_status_160 : decode cX4_status 160 = .ok (.iload_n 1, 1) := dk_27 (dk_at dksX4_status_6 0 rfl rfl)
theorem dX4_status_161 : decode cX4_status 161 = .ok (.bipush 10, 2) := dk_16 10 (dk_at dksX4_status_6 1 rfl rfl)
theorem dX4_status_163 : decode cX4_status 163 = .ok (.isub, 1) := dk_100 (dk_at dksX4_status_6 3 rfl rfl)
theorem dX4_status_164 : decode cX4_status 164 = .ok (.iaload, 1) := dk_46 (dk_at dksX4_status_6 4 rfl rfl)
theorem dX4_status_165 : decode cX4_status 165 = .ok (.goto 4, 3) := dk_167 0 4 (dk_at dksX4_status_6 5 rfl rfl)
theorem dX4_status_168 : decode cX4_status 168 = .ok (.iconst (-1), 1) := dk_2 (dk_at dksX4_status_6 8 rfl rfl)
theorem dX4_status_169 : decode cX4_status 169 = .ok (.ireturn, 1) := dk_172 (dk_at dksX4_status_6 9 rfl rfl)
theorem q70 : (Jvm.Cond.initialized "ThreeSizesModel") ∈ lw_all := lw_g (lw_at lw_m1 5 rfl) rfl
theorem q1413 : (Jvm.Cond.instantiable "ThreeSizesModel" (38 : Nat)) ∈ lw_all := lw_g (lw_at lw_m6 148 rfl) rfl
theorem q1415 : (Jvm.Cond.instanceMethod ({ cls := "ThreeSizesModel", name := "<init>", desc := "()V" } : Jvm.MethodName)) ∈ lw_all := lw_g (lw_at lw_m6 150 rfl) rfl
theorem q1416 : (Jvm.Cond.code ({ cls := "ThreeSizesModel", name := "<init>", desc := "()V" } : Jvm.MethodName) prog_19_method_1_code (1 : Nat) (Option.none : Option Jvm.ClassFile.FieldType)) ∈ lw_all := lw_g (lw_at lw_m6 151 rfl) rfl
theorem q1417 : (Jvm.Cond.methodLink "ThreeSizesModel" (1 : Nat) ({ cls := "java/lang/Object", name := "<init>", desc := "()V" } : Jvm.MethodName)) ∈ lw_all := lw_g (lw_at lw_m6 152 rfl) rfl
theorem q1418 : (Jvm.Cond.classLink "ThreeSizesModel" (19 : Nat) "[[J") ∈ lw_all := lw_g (lw_at lw_m6 153 rfl) rfl
theorem q1419 : (Jvm.Cond.classLink "ThreeSizesModel" (49 : Nat) "[[I") ∈ lw_all := lw_g (lw_at lw_m6 154 rfl) rfl
theorem q1421 : (Jvm.Cond.fieldLink "ThreeSizesModel" (7 : Nat) "ThreeSizesModel" "shelf" "[I") ∈ lw_all := lw_g (lw_at lw_m6 156 rfl) rfl
theorem q1422 : (Jvm.Cond.fieldLink "ThreeSizesModel" (13 : Nat) "ThreeSizesModel" "rowSort" "[I") ∈ lw_all := lw_g (lw_at lw_m6 157 rfl) rfl
theorem q1423 : (Jvm.Cond.fieldLink "ThreeSizesModel" (16 : Nat) "ThreeSizesModel" "rowSize" "[I") ∈ lw_all := lw_g (lw_at lw_m6 158 rfl) rfl
theorem q1424 : (Jvm.Cond.fieldLink "ThreeSizesModel" (21 : Nat) "ThreeSizesModel" "rows" "[[J") ∈ lw_all := lw_g (lw_at lw_m6 159 rfl) rfl
theorem q1425 : (Jvm.Cond.fieldLink "ThreeSizesModel" (24 : Nat) "ThreeSizesModel" "moved" "[J") ∈ lw_all := lw_g (lw_at lw_m6 160 rfl) rfl
theorem q1426 : (Jvm.Cond.fieldLink "ThreeSizesModel" (28 : Nat) "ThreeSizesModel" "ruleKind" "[I") ∈ lw_all := lw_g (lw_at lw_m6 161 rfl) rfl
theorem q1427 : (Jvm.Cond.fieldLink "ThreeSizesModel" (31 : Nat) "ThreeSizesModel" "ruleBy" "[I") ∈ lw_all := lw_g (lw_at lw_m6 162 rfl) rfl
theorem q1428 : (Jvm.Cond.fieldLink "ThreeSizesModel" (34 : Nat) "ThreeSizesModel" "tape" "[I") ∈ lw_all := lw_g (lw_at lw_m6 163 rfl) rfl
theorem q1429 : (Jvm.Cond.fieldLink "ThreeSizesModel" (159 : Nat) "ThreeSizesModel" "tapeSize" "I") ∈ lw_all := lw_g (lw_at lw_m6 164 rfl) rfl
theorem q1430 : (Jvm.Cond.fieldLink "ThreeSizesModel" (37 : Nat) "ThreeSizesModel" "refused" "[I") ∈ lw_all := lw_g (lw_at lw_m6 165 rfl) rfl
theorem q1431 : (Jvm.Cond.fieldLink "ThreeSizesModel" (40 : Nat) "ThreeSizesModel" "boxes" "[I") ∈ lw_all := lw_g (lw_at lw_m6 166 rfl) rfl
theorem q1432 : (Jvm.Cond.fieldLink "ThreeSizesModel" (43 : Nat) "ThreeSizesModel" "full" "[I") ∈ lw_all := lw_g (lw_at lw_m6 167 rfl) rfl
theorem q1433 : (Jvm.Cond.fieldLink "ThreeSizesModel" (46 : Nat) "ThreeSizesModel" "goes" "[I") ∈ lw_all := lw_g (lw_at lw_m6 168 rfl) rfl
theorem q1434 : (Jvm.Cond.fieldLink "ThreeSizesModel" (85 : Nat) "ThreeSizesModel" "sorts" "I") ∈ lw_all := lw_g (lw_at lw_m6 169 rfl) rfl
theorem q1435 : (Jvm.Cond.fieldLink "ThreeSizesModel" (51 : Nat) "ThreeSizesModel" "sort" "[[I") ∈ lw_all := lw_g (lw_at lw_m6 170 rfl) rfl
theorem q1436 : (Jvm.Cond.fieldLink "ThreeSizesModel" (54 : Nat) "ThreeSizesModel" "asked" "[I") ∈ lw_all := lw_g (lw_at lw_m6 171 rfl) rfl
theorem q1437 : (Jvm.Cond.fieldLink "ThreeSizesModel" (57 : Nat) "ThreeSizesModel" "day" "[I") ∈ lw_all := lw_g (lw_at lw_m6 172 rfl) rfl
theorem q1438 : (Jvm.Cond.fieldLink "ThreeSizesModel" (60 : Nat) "ThreeSizesModel" "seed" "I") ∈ lw_all := lw_g (lw_at lw_m6 173 rfl) rfl
theorem q1439 : (Jvm.Cond.fieldLink "ThreeSizesModel" (373 : Nat) "ThreeSizesModel" "kept" "LThreeSizesModel;") ∈ lw_all := lw_g (lw_at lw_m6 174 rfl) rfl
theorem q1440 : (Jvm.Cond.fieldLink "ThreeSizesModel" (343 : Nat) "ThreeSizesModel" "tried" "LThreeSizesModel;") ∈ lw_all := lw_g (lw_at lw_m6 175 rfl) rfl
theorem q1441 : (Jvm.Cond.fieldLink "ThreeSizesModel" (162 : Nat) "ThreeSizesModel" "at" "I") ∈ lw_all := lw_g (lw_at lw_m6 176 rfl) rfl
theorem q1442 : (Jvm.Cond.fieldLink "ThreeSizesModel" (172 : Nat) "ThreeSizesModel" "token" "I") ∈ lw_all := lw_g (lw_at lw_m6 177 rfl) rfl
theorem q1443 : (Jvm.Cond.fieldLink "ThreeSizesModel" (165 : Nat) "ThreeSizesModel" "from" "I") ∈ lw_all := lw_g (lw_at lw_m6 178 rfl) rfl
theorem q1444 : (Jvm.Cond.fieldLink "ThreeSizesModel" (168 : Nat) "ThreeSizesModel" "figures" "J") ∈ lw_all := lw_g (lw_at lw_m6 179 rfl) rfl
theorem q1445 : (Jvm.Cond.fieldLink "ThreeSizesModel" (186 : Nat) "ThreeSizesModel" "fault" "I") ∈ lw_all := lw_g (lw_at lw_m6 180 rfl) rfl
theorem q1446 : (Jvm.Cond.fieldLink "ThreeSizesModel" (64 : Nat) "ThreeSizesModel" "told" "[I") ∈ lw_all := lw_g (lw_at lw_m6 181 rfl) rfl
theorem q1447 : (Jvm.Cond.fieldLink "ThreeSizesModel" (233 : Nat) "ThreeSizesModel" "statements" "I") ∈ lw_all := lw_g (lw_at lw_m6 182 rfl) rfl
theorem q1448 : (Jvm.Cond.fieldLink "ThreeSizesModel" (67 : Nat) "ThreeSizesModel" "wiseGets" "[[I") ∈ lw_all := lw_g (lw_at lw_m6 183 rfl) rfl
theorem q1449 : (Jvm.Cond.fieldLink "ThreeSizesModel" (70 : Nat) "ThreeSizesModel" "values" "[[J") ∈ lw_all := lw_g (lw_at lw_m6 184 rfl) rfl
theorem q1450 : (Jvm.Cond.fieldLink "ThreeSizesModel" (73 : Nat) "ThreeSizesModel" "behind" "[J") ∈ lw_all := lw_g (lw_at lw_m6 185 rfl) rfl
theorem q1451 : (Jvm.Cond.fieldLink "ThreeSizesModel" (76 : Nat) "ThreeSizesModel" "carted" "[I") ∈ lw_all := lw_g (lw_at lw_m6 186 rfl) rfl
theorem q1452 : (Jvm.Cond.fieldLink "ThreeSizesModel" (79 : Nat) "ThreeSizesModel" "triedSize" "[I") ∈ lw_all := lw_g (lw_at lw_m6 187 rfl) rfl
theorem q1453 : (Jvm.Cond.fieldLink "ThreeSizesModel" (82 : Nat) "ThreeSizesModel" "bestSize" "[I") ∈ lw_all := lw_g (lw_at lw_m6 188 rfl) rfl
theorem q1454 : (Jvm.Cond.fieldLink "ThreeSizesModel" (311 : Nat) "ThreeSizesModel" "cartMost" "J") ∈ lw_all := lw_g (lw_at lw_m6 189 rfl) rfl
theorem q1455 : (Jvm.Cond.fieldLink "ThreeSizesModel" (307 : Nat) "ThreeSizesModel" "cartAny" "Z") ∈ lw_all := lw_g (lw_at lw_m6 190 rfl) rfl
theorem q1456 : (Jvm.Cond.fieldLink "ThreeSizesModel" (327 : Nat) "ThreeSizesModel" "wrongAt" "I") ∈ lw_all := lw_g (lw_at lw_m6 191 rfl) rfl
theorem q1457 : (Jvm.Cond.fieldLink "ThreeSizesModel" (330 : Nat) "ThreeSizesModel" "stateThen" "I") ∈ lw_all := lw_g (lw_at lw_m6 192 rfl) rfl
theorem q1458 : (Jvm.Cond.fieldLink "ThreeSizesModel" (333 : Nat) "ThreeSizesModel" "placedMany" "I") ∈ lw_all := lw_g (lw_at lw_m6 193 rfl) rfl
theorem q1459 : (Jvm.Cond.laysFinal "ThreeSizesModel" "ThreeSizesModel" "shelf" "[I") ∈ lw_all := lw_g (lw_at lw_m6 194 rfl) rfl
theorem q1460 : (Jvm.Cond.soleField "ThreeSizesModel" "shelf") ∈ lw_all := lw_g (lw_at lw_m6 195 rfl) rfl
theorem q1461 : (Jvm.Cond.laysFinal "ThreeSizesModel" "ThreeSizesModel" "rowSort" "[I") ∈ lw_all := lw_g (lw_at lw_m6 196 rfl) rfl
theorem q1462 : (Jvm.Cond.soleField "ThreeSizesModel" "rowSort") ∈ lw_all := lw_g (lw_at lw_m6 197 rfl) rfl
theorem q1463 : (Jvm.Cond.laysFinal "ThreeSizesModel" "ThreeSizesModel" "rowSize" "[I") ∈ lw_all := lw_g (lw_at lw_m6 198 rfl) rfl
theorem q1464 : (Jvm.Cond.soleField "ThreeSizesModel" "rowSize") ∈ lw_all := lw_g (lw_at lw_m6 199 rfl) rfl
theorem q1465 : (Jvm.Cond.laysFinal "ThreeSizesModel" "ThreeSizesModel" "rows" "[[J") ∈ lw_all := lw_g (lw_at lw_m6 200 rfl) rfl
theorem q1466 : (Jvm.Cond.soleField "ThreeSizesModel" "rows") ∈ lw_all := lw_g (lw_at lw_m6 201 rfl) rfl
theorem q1467 : (Jvm.Cond.laysFinal "ThreeSizesModel" "ThreeSizesModel" "moved" "[J") ∈ lw_all := lw_g (lw_at lw_m6 202 rfl) rfl
theorem q1468 : (Jvm.Cond.soleField "ThreeSizesModel" "moved") ∈ lw_all := lw_g (lw_at lw_m6 203 rfl) rfl
theorem q1469 : (Jvm.Cond.laysFinal "ThreeSizesModel" "ThreeSizesModel" "ruleKind" "[I") ∈ lw_all := lw_g (lw_at lw_m6 204 rfl) rfl
theorem q1470 : (Jvm.Cond.soleField "ThreeSizesModel" "ruleKind") ∈ lw_all := lw_g (lw_at lw_m6 205 rfl) rfl
theorem q1471 : (Jvm.Cond.laysFinal "ThreeSizesModel" "ThreeSizesModel" "ruleBy" "[I") ∈ lw_all := lw_g (lw_at lw_m6 206 rfl) rfl
theorem q1472 : (Jvm.Cond.soleField "ThreeSizesModel" "ruleBy") ∈ lw_all := lw_g (lw_at lw_m6 207 rfl) rfl
theorem q1473 : (Jvm.Cond.laysFinal "ThreeSizesModel" "ThreeSizesModel" "tape" "[I") ∈ lw_all := lw_g (lw_at lw_m6 208 rfl) rfl
theorem q1474 : (Jvm.Cond.soleField "ThreeSizesModel" "tape") ∈ lw_all := lw_g (lw_at lw_m6 209 rfl) rfl
theorem q1475 : (Jvm.Cond.lays "ThreeSizesModel" "ThreeSizesModel" "tapeSize" "I") ∈ lw_all := lw_g (lw_at lw_m6 210 rfl) rfl
theorem q1476 : (Jvm.Cond.soleField "ThreeSizesModel" "tapeSize") ∈ lw_all := lw_g (lw_at lw_m6 211 rfl) rfl
theorem q1477 : (Jvm.Cond.laysFinal "ThreeSizesModel" "ThreeSizesModel" "refused" "[I") ∈ lw_all := lw_g (lw_at lw_m6 212 rfl) rfl
theorem q1478 : (Jvm.Cond.soleField "ThreeSizesModel" "refused") ∈ lw_all := lw_g (lw_at lw_m6 213 rfl) rfl
theorem q1479 : (Jvm.Cond.laysFinal "ThreeSizesModel" "ThreeSizesModel" "boxes" "[I") ∈ lw_all := lw_g (lw_at lw_m6 214 rfl) rfl
theorem q1480 : (Jvm.Cond.soleField "ThreeSizesModel" "boxes") ∈ lw_all := lw_g (lw_at lw_m6 215 rfl) rfl
theorem q1481 : (Jvm.Cond.laysFinal "ThreeSizesModel" "ThreeSizesModel" "full" "[I") ∈ lw_all := lw_g (lw_at lw_m6 216 rfl) rfl
theorem q1482 : (Jvm.Cond.soleField "ThreeSizesModel" "full") ∈ lw_all := lw_g (lw_at lw_m6 217 rfl) rfl
theorem q1483 : (Jvm.Cond.laysFinal "ThreeSizesModel" "ThreeSizesModel" "goes" "[I") ∈ lw_all := lw_g (lw_at lw_m6 218 rfl) rfl
theorem q1484 : (Jvm.Cond.soleField "ThreeSizesModel" "goes") ∈ lw_all := lw_g (lw_at lw_m6 219 rfl) rfl
theorem q1485 : (Jvm.Cond.lays "ThreeSizesModel" "ThreeSizesModel" "sorts" "I") ∈ lw_all := lw_g (lw_at lw_m6 220 rfl) rfl
theorem q1486 : (Jvm.Cond.soleField "ThreeSizesModel" "sorts") ∈ lw_all := lw_g (lw_at lw_m6 221 rfl) rfl
theorem q1487 : (Jvm.Cond.laysFinal "ThreeSizesModel" "ThreeSizesModel" "sort" "[[I") ∈ lw_all := lw_g (lw_at lw_m6 222 rfl) rfl
theorem q1488 : (Jvm.Cond.soleField "ThreeSizesModel" "sort") ∈ lw_all := lw_g (lw_at lw_m6 223 rfl) rfl
theorem q1489 : (Jvm.Cond.laysFinal "ThreeSizesModel" "ThreeSizesModel" "asked" "[I") ∈ lw_all := lw_g (lw_at lw_m6 224 rfl) rfl
theorem q1490 : (Jvm.Cond.soleField "ThreeSizesModel" "asked") ∈ lw_all := lw_g (lw_at lw_m6 225 rfl) rfl
theorem q1491 : (Jvm.Cond.laysFinal "ThreeSizesModel" "ThreeSizesModel" "day" "[I") ∈ lw_all := lw_g (lw_at lw_m6 226 rfl) rfl
theorem q1492 : (Jvm.Cond.soleField "ThreeSizesModel" "day") ∈ lw_all := lw_g (lw_at lw_m6 227 rfl) rfl
theorem q1493 : (Jvm.Cond.lays "ThreeSizesModel" "ThreeSizesModel" "seed" "I") ∈ lw_all := lw_g (lw_at lw_m6 228 rfl) rfl
theorem q1494 : (Jvm.Cond.soleField "ThreeSizesModel" "seed") ∈ lw_all := lw_g (lw_at lw_m6 229 rfl) rfl
theorem q1495 : (Jvm.Cond.lays "ThreeSizesModel" "ThreeSizesModel" "kept" "LThreeSizesModel;") ∈ lw_all := lw_g (lw_at lw_m6 230 rfl) rfl
theorem q1496 : (Jvm.Cond.soleField "ThreeSizesModel" "kept") ∈ lw_all := lw_g (lw_at lw_m6 231 rfl) rfl
theorem q1497 : (Jvm.Cond.lays "ThreeSizesModel" "ThreeSizesModel" "tried" "LThreeSizesModel;") ∈ lw_all := lw_g (lw_at lw_m6 232 rfl) rfl
theorem q1498 : (Jvm.Cond.soleField "ThreeSizesModel" "tried") ∈ lw_all := lw_g (lw_at lw_m6 233 rfl) rfl
theorem q1499 : (Jvm.Cond.lays "ThreeSizesModel" "ThreeSizesModel" "at" "I") ∈ lw_all := lw_g (lw_at lw_m6 234 rfl) rfl
theorem q1500 : (Jvm.Cond.soleField "ThreeSizesModel" "at") ∈ lw_all := lw_g (lw_at lw_m6 235 rfl) rfl
theorem q1501 : (Jvm.Cond.lays "ThreeSizesModel" "ThreeSizesModel" "token" "I") ∈ lw_all := lw_g (lw_at lw_m6 236 rfl) rfl
theorem q1502 : (Jvm.Cond.soleField "ThreeSizesModel" "token") ∈ lw_all := lw_g (lw_at lw_m6 237 rfl) rfl
theorem q1503 : (Jvm.Cond.lays "ThreeSizesModel" "ThreeSizesModel" "from" "I") ∈ lw_all := lw_g (lw_at lw_m6 238 rfl) rfl
theorem q1504 : (Jvm.Cond.soleField "ThreeSizesModel" "from") ∈ lw_all := lw_g (lw_at lw_m6 239 rfl) rfl
theorem q1505 : (Jvm.Cond.lays "ThreeSizesModel" "ThreeSizesModel" "figures" "J") ∈ lw_all := lw_g (lw_at lw_m7 0 rfl) rfl
theorem q1506 : (Jvm.Cond.soleField "ThreeSizesModel" "figures") ∈ lw_all := lw_g (lw_at lw_m7 1 rfl) rfl
theorem q1507 : (Jvm.Cond.lays "ThreeSizesModel" "ThreeSizesModel" "fault" "I") ∈ lw_all := lw_g (lw_at lw_m7 2 rfl) rfl
theorem q1508 : (Jvm.Cond.soleField "ThreeSizesModel" "fault") ∈ lw_all := lw_g (lw_at lw_m7 3 rfl) rfl
theorem q1509 : (Jvm.Cond.laysFinal "ThreeSizesModel" "ThreeSizesModel" "told" "[I") ∈ lw_all := lw_g (lw_at lw_m7 4 rfl) rfl
theorem q1510 : (Jvm.Cond.soleField "ThreeSizesModel" "told") ∈ lw_all := lw_g (lw_at lw_m7 5 rfl) rfl
theorem q1511 : (Jvm.Cond.lays "ThreeSizesModel" "ThreeSizesModel" "statements" "I") ∈ lw_all := lw_g (lw_at lw_m7 6 rfl) rfl
theorem q1512 : (Jvm.Cond.soleField "ThreeSizesModel" "statements") ∈ lw_all := lw_g (lw_at lw_m7 7 rfl) rfl
theorem q1513 : (Jvm.Cond.laysFinal "ThreeSizesModel" "ThreeSizesModel" "wiseGets" "[[I") ∈ lw_all := lw_g (lw_at lw_m7 8 rfl) rfl
theorem q1514 : (Jvm.Cond.soleField "ThreeSizesModel" "wiseGets") ∈ lw_all := lw_g (lw_at lw_m7 9 rfl) rfl
theorem q1515 : (Jvm.Cond.laysFinal "ThreeSizesModel" "ThreeSizesModel" "values" "[[J") ∈ lw_all := lw_g (lw_at lw_m7 10 rfl) rfl
theorem q1516 : (Jvm.Cond.soleField "ThreeSizesModel" "values") ∈ lw_all := lw_g (lw_at lw_m7 11 rfl) rfl
theorem q1517 : (Jvm.Cond.laysFinal "ThreeSizesModel" "ThreeSizesModel" "behind" "[J") ∈ lw_all := lw_g (lw_at lw_m7 12 rfl) rfl
theorem q1518 : (Jvm.Cond.soleField "ThreeSizesModel" "behind") ∈ lw_all := lw_g (lw_at lw_m7 13 rfl) rfl
theorem q1519 : (Jvm.Cond.laysFinal "ThreeSizesModel" "ThreeSizesModel" "carted" "[I") ∈ lw_all := lw_g (lw_at lw_m7 14 rfl) rfl
theorem q1520 : (Jvm.Cond.soleField "ThreeSizesModel" "carted") ∈ lw_all := lw_g (lw_at lw_m7 15 rfl) rfl
theorem q1521 : (Jvm.Cond.laysFinal "ThreeSizesModel" "ThreeSizesModel" "triedSize" "[I") ∈ lw_all := lw_g (lw_at lw_m7 16 rfl) rfl
theorem q1522 : (Jvm.Cond.soleField "ThreeSizesModel" "triedSize") ∈ lw_all := lw_g (lw_at lw_m7 17 rfl) rfl
theorem q1523 : (Jvm.Cond.laysFinal "ThreeSizesModel" "ThreeSizesModel" "bestSize" "[I") ∈ lw_all := lw_g (lw_at lw_m7 18 rfl) rfl
theorem q1524 : (Jvm.Cond.soleField "ThreeSizesModel" "bestSize") ∈ lw_all := lw_g (lw_at lw_m7 19 rfl) rfl
theorem q1525 : (Jvm.Cond.lays "ThreeSizesModel" "ThreeSizesModel" "cartMost" "J") ∈ lw_all := lw_g (lw_at lw_m7 20 rfl) rfl
theorem q1526 : (Jvm.Cond.soleField "ThreeSizesModel" "cartMost") ∈ lw_all := lw_g (lw_at lw_m7 21 rfl) rfl
theorem q1527 : (Jvm.Cond.lays "ThreeSizesModel" "ThreeSizesModel" "cartAny" "Z") ∈ lw_all := lw_g (lw_at lw_m7 22 rfl) rfl
theorem q1528 : (Jvm.Cond.soleField "ThreeSizesModel" "cartAny") ∈ lw_all := lw_g (lw_at lw_m7 23 rfl) rfl
theorem q1529 : (Jvm.Cond.lays "ThreeSizesModel" "ThreeSizesModel" "wrongAt" "I") ∈ lw_all := lw_g (lw_at lw_m7 24 rfl) rfl
theorem q1530 : (Jvm.Cond.soleField "ThreeSizesModel" "wrongAt") ∈ lw_all := lw_g (lw_at lw_m7 25 rfl) rfl
theorem q1531 : (Jvm.Cond.lays "ThreeSizesModel" "ThreeSizesModel" "stateThen" "I") ∈ lw_all := lw_g (lw_at lw_m7 26 rfl) rfl
theorem q1532 : (Jvm.Cond.soleField "ThreeSizesModel" "stateThen") ∈ lw_all := lw_g (lw_at lw_m7 27 rfl) rfl
theorem q1533 : (Jvm.Cond.lays "ThreeSizesModel" "ThreeSizesModel" "placedMany" "I") ∈ lw_all := lw_g (lw_at lw_m7 28 rfl) rfl
theorem q1534 : (Jvm.Cond.soleField "ThreeSizesModel" "placedMany") ∈ lw_all := lw_g (lw_at lw_m7 29 rfl) rfl
theorem q1535 : (Jvm.Cond.superclass "ThreeSizesModel" "java/lang/Object") ∈ lw_all := lw_g (lw_at lw_m7 30 rfl) rfl
theorem q1537 : (Jvm.Cond.instanceMethod ({ cls := "ThreeSizesModel", name := "row", desc := "(III)I" } : Jvm.MethodName)) ∈ lw_all := lw_g (lw_at lw_m7 32 rfl) rfl
theorem q1538 : (Jvm.Cond.selects "ThreeSizesModel" ({ cls := "ThreeSizesModel", name := "row", desc := "(III)I" } : Jvm.MethodName) ({ cls := "ThreeSizesModel", name := "row", desc := "(III)I" } : Jvm.MethodName)) ∈ lw_all := lw_g (lw_at lw_m7 33 rfl) rfl
theorem q1539 : (Jvm.Cond.code ({ cls := "ThreeSizesModel", name := "row", desc := "(III)I" } : Jvm.MethodName) prog_19_method_12_code (5 : Nat) (Option.some Jvm.ClassFile.FieldType.int)) ∈ lw_all := lw_g (lw_at lw_m7 34 rfl) rfl
theorem q1540 : (Jvm.Cond.constantLong "ThreeSizesModel" (104 : Nat) (7 : Int64)) ∈ lw_all := lw_g (lw_at lw_m7 35 rfl) rfl
theorem q1541 : (Jvm.Cond.methodLink "ThreeSizesModel" (88 : Nat) ({ cls := "ThreeSizesModel", name := "in", desc := "(JJJ)Z" } : Jvm.MethodName)) ∈ lw_all := lw_g (lw_at lw_m7 36 rfl) rfl
theorem q1542 : (Jvm.Cond.static ({ cls := "ThreeSizesModel", name := "in", desc := "(JJJ)Z" } : Jvm.MethodName)) ∈ lw_all := lw_g (lw_at lw_m7 37 rfl) rfl
theorem q1543 : (Jvm.Cond.code ({ cls := "ThreeSizesModel", name := "in", desc := "(JJJ)Z" } : Jvm.MethodName) prog_19_method_3_code (6 : Nat) (Option.some Jvm.ClassFile.FieldType.boolean)) ∈ lw_all := lw_g (lw_at lw_m7 38 rfl) rfl
theorem q1544 : (Jvm.Cond.constantLong "ThreeSizesModel" (106 : Nat) (4 : Int64)) ∈ lw_all := lw_g (lw_at lw_m7 39 rfl) rfl
theorem q1545 : (Jvm.Cond.constantLong "ThreeSizesModel" (108 : Nat) (40 : Int64)) ∈ lw_all := lw_g (lw_at lw_m7 40 rfl) rfl
theorem q1546 : (Jvm.Cond.methodLink "ThreeSizesModel" (110 : Nat) ({ cls := "ThreeSizesModel", name := "refuse", desc := "(I)I" } : Jvm.MethodName)) ∈ lw_all := lw_g (lw_at lw_m7 41 rfl) rfl
theorem q1547 : (Jvm.Cond.privateMethod ({ cls := "ThreeSizesModel", name := "refuse", desc := "(I)I" } : Jvm.MethodName)) ∈ lw_tbl := lw_at lw_m7 42 rfl
theorem q1548 : (Jvm.Cond.instanceMethod ({ cls := "ThreeSizesModel", name := "refuse", desc := "(I)I" } : Jvm.MethodName)) ∈ lw_all := lw_g (lw_at lw_m7 43 rfl) rfl
theorem q1549 : (Jvm.Cond.code ({ cls := "ThreeSizesModel", name := "refuse", desc := "(I)I" } : Jvm.MethodName) prog_19_method_2_code (2 : Nat) (Option.some Jvm.ClassFile.FieldType.int)) ∈ lw_all := lw_g (lw_at lw_m7 44 rfl) rfl
theorem q1551 : (Jvm.Cond.instanceMethod ({ cls := "ThreeSizesModel", name := "set", desc := "(IIJ)I" } : Jvm.MethodName)) ∈ lw_all := lw_g (lw_at lw_m7 46 rfl) rfl
theorem q1552 : (Jvm.Cond.selects "ThreeSizesModel" ({ cls := "ThreeSizesModel", name := "set", desc := "(IIJ)I" } : Jvm.MethodName) ({ cls := "ThreeSizesModel", name := "set", desc := "(IIJ)I" } : Jvm.MethodName)) ∈ lw_all := lw_g (lw_at lw_m7 47 rfl) rfl
theorem q1553 : (Jvm.Cond.code ({ cls := "ThreeSizesModel", name := "set", desc := "(IIJ)I" } : Jvm.MethodName) prog_19_method_14_code (5 : Nat) (Option.some Jvm.ClassFile.FieldType.int)) ∈ lw_all := lw_g (lw_at lw_m7 48 rfl) rfl
theorem q1554 : (Jvm.Cond.methodLink "ThreeSizesModel" (114 : Nat) ({ cls := "ThreeSizesModel", name := "fit", desc := "(IJ)J" } : Jvm.MethodName)) ∈ lw_all := lw_g (lw_at lw_m7 49 rfl) rfl
theorem q1555 : (Jvm.Cond.static ({ cls := "ThreeSizesModel", name := "fit", desc := "(IJ)J" } : Jvm.MethodName)) ∈ lw_all := lw_g (lw_at lw_m7 50 rfl) rfl
theorem q1556 : (Jvm.Cond.code ({ cls := "ThreeSizesModel", name := "fit", desc := "(IJ)J" } : Jvm.MethodName) prog_19_method_13_code (3 : Nat) (Option.some Jvm.ClassFile.FieldType.long)) ∈ lw_all := lw_g (lw_at lw_m7 51 rfl) rfl
theorem q1558 : (Jvm.Cond.instanceMethod ({ cls := "ThreeSizesModel", name := "copy", desc := "(IIIII)I" } : Jvm.MethodName)) ∈ lw_all := lw_g (lw_at lw_m7 53 rfl) rfl
theorem q1559 : (Jvm.Cond.selects "ThreeSizesModel" ({ cls := "ThreeSizesModel", name := "copy", desc := "(IIIII)I" } : Jvm.MethodName) ({ cls := "ThreeSizesModel", name := "copy", desc := "(IIIII)I" } : Jvm.MethodName)) ∈ lw_all := lw_g (lw_at lw_m7 54 rfl) rfl
theorem q1560 : (Jvm.Cond.code ({ cls := "ThreeSizesModel", name := "copy", desc := "(IIIII)I" } : Jvm.MethodName) prog_19_method_15_code (7 : Nat) (Option.some Jvm.ClassFile.FieldType.int)) ∈ lw_all := lw_g (lw_at lw_m7 55 rfl) rfl
theorem q1562 : (Jvm.Cond.instanceMethod ({ cls := "ThreeSizesModel", name := "element", desc := "(II)J" } : Jvm.MethodName)) ∈ lw_all := lw_g (lw_at lw_m7 57 rfl) rfl
theorem q1563 : (Jvm.Cond.selects "ThreeSizesModel" ({ cls := "ThreeSizesModel", name := "element", desc := "(II)J" } : Jvm.MethodName) ({ cls := "ThreeSizesModel", name := "element", desc := "(II)J" } : Jvm.MethodName)) ∈ lw_all := lw_g (lw_at lw_m7 58 rfl) rfl
theorem q1564 : (Jvm.Cond.code ({ cls := "ThreeSizesModel", name := "element", desc := "(II)J" } : Jvm.MethodName) prog_19_method_16_code (3 : Nat) (Option.some Jvm.ClassFile.FieldType.long)) ∈ lw_all := lw_g (lw_at lw_m7 59 rfl) rfl
theorem q1566 : (Jvm.Cond.instanceMethod ({ cls := "ThreeSizesModel", name := "holds", desc := "(I)I" } : Jvm.MethodName)) ∈ lw_all := lw_g (lw_at lw_m7 61 rfl) rfl
theorem q1567 : (Jvm.Cond.selects "ThreeSizesModel" ({ cls := "ThreeSizesModel", name := "holds", desc := "(I)I" } : Jvm.MethodName) ({ cls := "ThreeSizesModel", name := "holds", desc := "(I)I" } : Jvm.MethodName)) ∈ lw_all := lw_g (lw_at lw_m7 62 rfl) rfl
theorem q1568 : (Jvm.Cond.code ({ cls := "ThreeSizesModel", name := "holds", desc := "(I)I" } : Jvm.MethodName) prog_19_method_17_code (2 : Nat) (Option.some Jvm.ClassFile.FieldType.int)) ∈ lw_all := lw_g (lw_at lw_m7 63 rfl) rfl
theorem q1570 : (Jvm.Cond.instanceMethod ({ cls := "ThreeSizesModel", name := "rule", desc := "(III)I" } : Jvm.MethodName)) ∈ lw_all := lw_g (lw_at lw_m7 65 rfl) rfl
theorem q1571 : (Jvm.Cond.selects "ThreeSizesModel" ({ cls := "ThreeSizesModel", name := "rule", desc := "(III)I" } : Jvm.MethodName) ({ cls := "ThreeSizesModel", name := "rule", desc := "(III)I" } : Jvm.MethodName)) ∈ lw_all := lw_g (lw_at lw_m7 66 rfl) rfl
theorem q1572 : (Jvm.Cond.code ({ cls := "ThreeSizesModel", name := "rule", desc := "(III)I" } : Jvm.MethodName) prog_19_method_18_code (4 : Nat) (Option.some Jvm.ClassFile.FieldType.int)) ∈ lw_all := lw_g (lw_at lw_m7 67 rfl) rfl
theorem q1573 : (Jvm.Cond.constantLong "ThreeSizesModel" (118 : Nat) (6 : Int64)) ∈ lw_all := lw_g (lw_at lw_m7 68 rfl) rfl
theorem q1574 : (Jvm.Cond.constantLong "ThreeSizesModel" (120 : Nat) (99 : Int64)) ∈ lw_all := lw_g (lw_at lw_m7 69 rfl) rfl
theorem q1576 : (Jvm.Cond.instanceMethod ({ cls := "ThreeSizesModel", name := "says", desc := "(II)I" } : Jvm.MethodName)) ∈ lw_all := lw_g (lw_at lw_m7 71 rfl) rfl
theorem q1577 : (Jvm.Cond.selects "ThreeSizesModel" ({ cls := "ThreeSizesModel", name := "says", desc := "(II)I" } : Jvm.MethodName) ({ cls := "ThreeSizesModel", name := "says", desc := "(II)I" } : Jvm.MethodName)) ∈ lw_all := lw_g (lw_at lw_m7 72 rfl) rfl
theorem q1578 : (Jvm.Cond.code ({ cls := "ThreeSizesModel", name := "says", desc := "(II)I" } : Jvm.MethodName) prog_19_method_20_code (3 : Nat) (Option.some Jvm.ClassFile.FieldType.int)) ∈ lw_all := lw_g (lw_at lw_m7 73 rfl) rfl
theorem q1579 : (Jvm.Cond.methodLink "ThreeSizesModel" (122 : Nat) ({ cls := "ThreeSizesModel", name := "isUnder", desc := "(II)Z" } : Jvm.MethodName)) ∈ lw_all := lw_g (lw_at lw_m7 74 rfl) rfl
theorem q1580 : (Jvm.Cond.static ({ cls := "ThreeSizesModel", name := "isUnder", desc := "(II)Z" } : Jvm.MethodName)) ∈ lw_all := lw_g (lw_at lw_m7 75 rfl) rfl
theorem q1581 : (Jvm.Cond.code ({ cls := "ThreeSizesModel", name := "isUnder", desc := "(II)Z" } : Jvm.MethodName) prog_19_method_19_code (2 : Nat) (Option.some Jvm.ClassFile.FieldType.boolean)) ∈ lw_all := lw_g (lw_at lw_m7 76 rfl) rfl
theorem q1582 : (Jvm.Cond.methodLink "ThreeSizesModel" (126 : Nat) ({ cls := "ThreeSizesModel", name := "hoursOf", desc := "(I)I" } : Jvm.MethodName)) ∈ lw_all := lw_g (lw_at lw_m7 77 rfl) rfl
theorem q1583 : (Jvm.Cond.static ({ cls := "ThreeSizesModel", name := "hoursOf", desc := "(I)I" } : Jvm.MethodName)) ∈ lw_all := lw_g (lw_at lw_m7 78 rfl) rfl
theorem q1584 : (Jvm.Cond.code ({ cls := "ThreeSizesModel", name := "hoursOf", desc := "(I)I" } : Jvm.MethodName) prog_19_method_43_code (1 : Nat) (Option.some Jvm.ClassFile.FieldType.int)) ∈ lw_all := lw_g (lw_at lw_m7 79 rfl) rfl
theorem q1585 : (Jvm.Cond.methodLink "ThreeSizesModel" (129 : Nat) ({ cls := "ThreeSizesModel", name := "stateNow", desc := "()I" } : Jvm.MethodName)) ∈ lw_all := lw_g (lw_at lw_m7 80 rfl) rfl
theorem q1586 : (Jvm.Cond.privateMethod ({ cls := "ThreeSizesModel", name := "stateNow", desc := "()I" } : Jvm.MethodName)) ∈ lw_tbl := lw_at lw_m7 81 rfl
theorem q1587 : (Jvm.Cond.instanceMethod ({ cls := "ThreeSizesModel", name := "stateNow", desc := "()I" } : Jvm.MethodName)) ∈ lw_all := lw_g (lw_at lw_m7 82 rfl) rfl
theorem q1588 : (Jvm.Cond.code ({ cls := "ThreeSizesModel", name := "stateNow", desc := "()I" } : Jvm.MethodName) prog_19_method_10_code (1 : Nat) (Option.some Jvm.ClassFile.FieldType.int)) ∈ lw_all := lw_g (lw_at lw_m7 83 rfl) rfl
theorem q1589 : (Jvm.Cond.methodLink "ThreeSizesModel" (94 : Nat) ({ cls := "ThreeSizesModel", name := "code", desc := "(III)I" } : Jvm.MethodName)) ∈ lw_all := lw_g (lw_at lw_m7 84 rfl) rfl
theorem q1590 : (Jvm.Cond.static ({ cls := "ThreeSizesModel", name := "code", desc := "(III)I" } : Jvm.MethodName)) ∈ lw_all := lw_g (lw_at lw_m7 85 rfl) rfl
theorem q1591 : (Jvm.Cond.code ({ cls := "ThreeSizesModel", name := "code", desc := "(III)I" } : Jvm.MethodName) prog_19_method_7_code (3 : Nat) (Option.some Jvm.ClassFile.FieldType.int)) ∈ lw_all := lw_g (lw_at lw_m7 86 rfl) rfl
theorem q1592 : (Jvm.Cond.methodLink "ThreeSizesModel" (133 : Nat) ({ cls := "ThreeSizesModel", name := "gives", desc := "(IIII)I" } : Jvm.MethodName)) ∈ lw_all := lw_g (lw_at lw_m7 87 rfl) rfl
theorem q1593 : (Jvm.Cond.privateMethod ({ cls := "ThreeSizesModel", name := "gives", desc := "(IIII)I" } : Jvm.MethodName)) ∈ lw_tbl := lw_at lw_m7 88 rfl
theorem q1594 : (Jvm.Cond.instanceMethod ({ cls := "ThreeSizesModel", name := "gives", desc := "(IIII)I" } : Jvm.MethodName)) ∈ lw_all := lw_g (lw_at lw_m7 89 rfl) rfl
theorem q1595 : (Jvm.Cond.code ({ cls := "ThreeSizesModel", name := "gives", desc := "(IIII)I" } : Jvm.MethodName) prog_19_method_50_code (5 : Nat) (Option.some Jvm.ClassFile.FieldType.int)) ∈ lw_all := lw_g (lw_at lw_m7 90 rfl) rfl
theorem q1596 : (Jvm.Cond.methodLink "ThreeSizesModel" (276 : Nat) ({ cls := "ThreeSizesModel", name := "beWise", desc := "(I)V" } : Jvm.MethodName)) ∈ lw_all := lw_g (lw_at lw_m7 91 rfl) rfl
theorem q1597 : (Jvm.Cond.privateMethod ({ cls := "ThreeSizesModel", name := "beWise", desc := "(I)V" } : Jvm.MethodName)) ∈ lw_tbl := lw_at lw_m7 92 rfl
theorem q1598 : (Jvm.Cond.instanceMethod ({ cls := "ThreeSizesModel", name := "beWise", desc := "(I)V" } : Jvm.MethodName)) ∈ lw_all := lw_g (lw_at lw_m7 93 rfl) rfl
theorem q1599 : (Jvm.Cond.code ({ cls := "ThreeSizesModel", name := "beWise", desc := "(I)V" } : Jvm.MethodName) prog_19_method_49_code (4 : Nat) (Option.none : Option Jvm.ClassFile.FieldType)) ∈ lw_all := lw_g (lw_at lw_m7 94 rfl) rfl
theorem q1600 : (Jvm.Cond.methodLink "ThreeSizesModel" (265 : Nat) ({ cls := "ThreeSizesModel", name := "solve", desc := "(IIII)V" } : Jvm.MethodName)) ∈ lw_all := lw_g (lw_at lw_m7 95 rfl) rfl
theorem q1601 : (Jvm.Cond.privateMethod ({ cls := "ThreeSizesModel", name := "solve", desc := "(IIII)V" } : Jvm.MethodName)) ∈ lw_tbl := lw_at lw_m7 96 rfl
theorem q1602 : (Jvm.Cond.instanceMethod ({ cls := "ThreeSizesModel", name := "solve", desc := "(IIII)V" } : Jvm.MethodName)) ∈ lw_all := lw_g (lw_at lw_m7 97 rfl) rfl
theorem q1603 : (Jvm.Cond.code ({ cls := "ThreeSizesModel", name := "solve", desc := "(IIII)V" } : Jvm.MethodName) prog_19_method_53_code (7 : Nat) (Option.none : Option Jvm.ClassFile.FieldType)) ∈ lw_all := lw_g (lw_at lw_m7 98 rfl) rfl
theorem q1604 : (Jvm.Cond.methodLink "ThreeSizesModel" (269 : Nat) ({ cls := "ThreeSizesModel", name := "isState", desc := "(I)Z" } : Jvm.MethodName)) ∈ lw_all := lw_g (lw_at lw_m7 99 rfl) rfl
theorem q1605 : (Jvm.Cond.privateMethod ({ cls := "ThreeSizesModel", name := "isState", desc := "(I)Z" } : Jvm.MethodName)) ∈ lw_tbl := lw_at lw_m7 100 rfl
theorem q1606 : (Jvm.Cond.instanceMethod ({ cls := "ThreeSizesModel", name := "isState", desc := "(I)Z" } : Jvm.MethodName)) ∈ lw_all := lw_g (lw_at lw_m7 101 rfl) rfl
theorem q1607 : (Jvm.Cond.code ({ cls := "ThreeSizesModel", name := "isState", desc := "(I)Z" } : Jvm.MethodName) prog_19_method_11_code (2 : Nat) (Option.some Jvm.ClassFile.FieldType.boolean)) ∈ lw_all := lw_g (lw_at lw_m7 102 rfl) rfl
theorem q1608 : (Jvm.Cond.constantLong "ThreeSizesModel" (98 : Nat) (124 : Int64)) ∈ lw_all := lw_g (lw_at lw_m7 103 rfl) rfl
theorem q1609 : (Jvm.Cond.methodLink "ThreeSizesModel" (100 : Nat) ({ cls := "ThreeSizesModel", name := "freeOf", desc := "(II)I" } : Jvm.MethodName)) ∈ lw_all := lw_g (lw_at lw_m7 104 rfl) rfl
theorem q1610 : (Jvm.Cond.static ({ cls := "ThreeSizesModel", name := "freeOf", desc := "(II)I" } : Jvm.MethodName)) ∈ lw_all := lw_g (lw_at lw_m7 105 rfl) rfl
theorem q1611 : (Jvm.Cond.code ({ cls := "ThreeSizesModel", name := "freeOf", desc := "(II)I" } : Jvm.MethodName) prog_19_method_8_code (2 : Nat) (Option.some Jvm.ClassFile.FieldType.int)) ∈ lw_all := lw_g (lw_at lw_m7 106 rfl) rfl
theorem q1612 : (Jvm.Cond.methodLink "ThreeSizesModel" (286 : Nat) ({ cls := "ThreeSizesModel", name := "placed", desc := "(III[J)J" } : Jvm.MethodName)) ∈ lw_all := lw_g (lw_at lw_m7 107 rfl) rfl
theorem q1613 : (Jvm.Cond.privateMethod ({ cls := "ThreeSizesModel", name := "placed", desc := "(III[J)J" } : Jvm.MethodName)) ∈ lw_tbl := lw_at lw_m7 108 rfl
theorem q1614 : (Jvm.Cond.instanceMethod ({ cls := "ThreeSizesModel", name := "placed", desc := "(III[J)J" } : Jvm.MethodName)) ∈ lw_all := lw_g (lw_at lw_m7 109 rfl) rfl
theorem q1615 : (Jvm.Cond.code ({ cls := "ThreeSizesModel", name := "placed", desc := "(III[J)J" } : Jvm.MethodName) prog_19_method_52_code (11 : Nat) (Option.some Jvm.ClassFile.FieldType.long)) ∈ lw_all := lw_g (lw_at lw_m7 110 rfl) rfl
theorem q1616 : (Jvm.Cond.methodLink "ThreeSizesModel" (143 : Nat) ({ cls := "ThreeSizesModel", name := "comes", desc := "()I" } : Jvm.MethodName)) ∈ lw_all := lw_g (lw_at lw_m7 111 rfl) rfl
theorem q1617 : (Jvm.Cond.privateMethod ({ cls := "ThreeSizesModel", name := "comes", desc := "()I" } : Jvm.MethodName)) ∈ lw_tbl := lw_at lw_m7 112 rfl
theorem q1618 : (Jvm.Cond.instanceMethod ({ cls := "ThreeSizesModel", name := "comes", desc := "()I" } : Jvm.MethodName)) ∈ lw_all := lw_g (lw_at lw_m7 113 rfl) rfl
theorem q1619 : (Jvm.Cond.code ({ cls := "ThreeSizesModel", name := "comes", desc := "()I" } : Jvm.MethodName) prog_19_method_6_code (3 : Nat) (Option.some Jvm.ClassFile.FieldType.int)) ∈ lw_all := lw_g (lw_at lw_m7 114 rfl) rfl
theorem q1620 : (Jvm.Cond.methodLink "ThreeSizesModel" (272 : Nat) ({ cls := "ThreeSizesModel", name := "bestFor", desc := "(II[J)I" } : Jvm.MethodName)) ∈ lw_all := lw_g (lw_at lw_m7 115 rfl) rfl
theorem q1621 : (Jvm.Cond.privateMethod ({ cls := "ThreeSizesModel", name := "bestFor", desc := "(II[J)I" } : Jvm.MethodName)) ∈ lw_tbl := lw_at lw_m7 116 rfl
theorem q1622 : (Jvm.Cond.instanceMethod ({ cls := "ThreeSizesModel", name := "bestFor", desc := "(II[J)I" } : Jvm.MethodName)) ∈ lw_all := lw_g (lw_at lw_m7 117 rfl) rfl
theorem q1623 : (Jvm.Cond.code ({ cls := "ThreeSizesModel", name := "bestFor", desc := "(II[J)I" } : Jvm.MethodName) prog_19_method_47_code (10 : Nat) (Option.some Jvm.ClassFile.FieldType.int)) ∈ lw_all := lw_g (lw_at lw_m7 118 rfl) rfl
theorem q1624 : (Jvm.Cond.methodLink "ThreeSizesModel" (250 : Nat) ({ cls := "ThreeSizesModel", name := "lostOf", desc := "(I)J" } : Jvm.MethodName)) ∈ lw_all := lw_g (lw_at lw_m7 119 rfl) rfl
theorem q1625 : (Jvm.Cond.privateMethod ({ cls := "ThreeSizesModel", name := "lostOf", desc := "(I)J" } : Jvm.MethodName)) ∈ lw_tbl := lw_at lw_m7 120 rfl
theorem q1626 : (Jvm.Cond.instanceMethod ({ cls := "ThreeSizesModel", name := "lostOf", desc := "(I)J" } : Jvm.MethodName)) ∈ lw_all := lw_g (lw_at lw_m7 121 rfl) rfl
theorem q1627 : (Jvm.Cond.code ({ cls := "ThreeSizesModel", name := "lostOf", desc := "(I)J" } : Jvm.MethodName) prog_19_method_44_code (2 : Nat) (Option.some Jvm.ClassFile.FieldType.long)) ∈ lw_all := lw_g (lw_at lw_m7 122 rfl) rfl
theorem q1628 : (Jvm.Cond.constantLong "ThreeSizesModel" (184 : Nat) (100000 : Int64)) ∈ lw_all := lw_g (lw_at lw_m7 123 rfl) rfl
theorem q1629 : (Jvm.Cond.methodLink "ThreeSizesModel" (256 : Nat) ({ cls := "ThreeSizesModel", name := "mayGet", desc := "(III)Z" } : Jvm.MethodName)) ∈ lw_all := lw_g (lw_at lw_m7 124 rfl) rfl
theorem q1630 : (Jvm.Cond.privateMethod ({ cls := "ThreeSizesModel", name := "mayGet", desc := "(III)Z" } : Jvm.MethodName)) ∈ lw_tbl := lw_at lw_m7 125 rfl
theorem q1631 : (Jvm.Cond.instanceMethod ({ cls := "ThreeSizesModel", name := "mayGet", desc := "(III)Z" } : Jvm.MethodName)) ∈ lw_all := lw_g (lw_at lw_m7 126 rfl) rfl
theorem q1632 : (Jvm.Cond.code ({ cls := "ThreeSizesModel", name := "mayGet", desc := "(III)Z" } : Jvm.MethodName) prog_19_method_46_code (4 : Nat) (Option.some Jvm.ClassFile.FieldType.boolean)) ∈ lw_all := lw_g (lw_at lw_m7 127 rfl) rfl
theorem q1633 : (Jvm.Cond.constantLong "ThreeSizesModel" (260 : Nat) (1000000 : Int64)) ∈ lw_all := lw_g (lw_at lw_m7 128 rfl) rfl
theorem q1634 : (Jvm.Cond.methodLink "ThreeSizesModel" (262 : Nat) ({ cls := "ThreeSizesModel", name := "oneOf", desc := "(I)I" } : Jvm.MethodName)) ∈ lw_all := lw_g (lw_at lw_m7 129 rfl) rfl
theorem q1635 : (Jvm.Cond.static ({ cls := "ThreeSizesModel", name := "oneOf", desc := "(I)I" } : Jvm.MethodName)) ∈ lw_all := lw_g (lw_at lw_m7 130 rfl) rfl
theorem q1636 : (Jvm.Cond.code ({ cls := "ThreeSizesModel", name := "oneOf", desc := "(I)I" } : Jvm.MethodName) prog_19_method_9_code (1 : Nat) (Option.some Jvm.ClassFile.FieldType.int)) ∈ lw_all := lw_g (lw_at lw_m7 131 rfl) rfl
theorem q1637 : (Jvm.Cond.methodLink "ThreeSizesModel" (280 : Nat) ({ cls := "ThreeSizesModel", name := "sizeBy", desc := "(IIII)I" } : Jvm.MethodName)) ∈ lw_all := lw_g (lw_at lw_m7 132 rfl) rfl
theorem q1638 : (Jvm.Cond.privateMethod ({ cls := "ThreeSizesModel", name := "sizeBy", desc := "(IIII)I" } : Jvm.MethodName)) ∈ lw_tbl := lw_at lw_m7 133 rfl
theorem q1639 : (Jvm.Cond.instanceMethod ({ cls := "ThreeSizesModel", name := "sizeBy", desc := "(IIII)I" } : Jvm.MethodName)) ∈ lw_all := lw_g (lw_at lw_m7 134 rfl) rfl
theorem q1640 : (Jvm.Cond.code ({ cls := "ThreeSizesModel", name := "sizeBy", desc := "(IIII)I" } : Jvm.MethodName) prog_19_method_48_code (9 : Nat) (Option.some Jvm.ClassFile.FieldType.int)) ∈ lw_all := lw_g (lw_at lw_m7 135 rfl) rfl
theorem q1641 : (Jvm.Cond.methodLink "ThreeSizesModel" (290 : Nat) ({ cls := "ThreeSizesModel", name := "fetched", desc := "(II)J" } : Jvm.MethodName)) ∈ lw_all := lw_g (lw_at lw_m7 136 rfl) rfl
theorem q1642 : (Jvm.Cond.privateMethod ({ cls := "ThreeSizesModel", name := "fetched", desc := "(II)J" } : Jvm.MethodName)) ∈ lw_tbl := lw_at lw_m7 137 rfl
theorem q1643 : (Jvm.Cond.instanceMethod ({ cls := "ThreeSizesModel", name := "fetched", desc := "(II)J" } : Jvm.MethodName)) ∈ lw_all := lw_g (lw_at lw_m7 138 rfl) rfl
theorem q1644 : (Jvm.Cond.code ({ cls := "ThreeSizesModel", name := "fetched", desc := "(II)J" } : Jvm.MethodName) prog_19_method_54_code (12 : Nat) (Option.some Jvm.ClassFile.FieldType.long)) ∈ lw_all := lw_g (lw_at lw_m7 139 rfl) rfl
theorem q1646 : (Jvm.Cond.instanceMethod ({ cls := "ThreeSizesModel", name := "size", desc := "(III)I" } : Jvm.MethodName)) ∈ lw_all := lw_g (lw_at lw_m7 141 rfl) rfl
theorem q1647 : (Jvm.Cond.selects "ThreeSizesModel" ({ cls := "ThreeSizesModel", name := "size", desc := "(III)I" } : Jvm.MethodName) ({ cls := "ThreeSizesModel", name := "size", desc := "(III)I" } : Jvm.MethodName)) ∈ lw_all := lw_g (lw_at lw_m7 142 rfl) rfl
theorem q1648 : (Jvm.Cond.code ({ cls := "ThreeSizesModel", name := "size", desc := "(III)I" } : Jvm.MethodName) prog_19_method_22_code (6 : Nat) (Option.some Jvm.ClassFile.FieldType.int)) ∈ lw_all := lw_g (lw_at lw_m7 143 rfl) rfl
theorem q1649 : (Jvm.Cond.constantLong "ThreeSizesModel" (137 : Nat) (2 : Int64)) ∈ lw_all := lw_g (lw_at lw_m7 144 rfl) rfl
theorem q1650 : (Jvm.Cond.constantLong "ThreeSizesModel" (139 : Nat) (10 : Int64)) ∈ lw_all := lw_g (lw_at lw_m7 145 rfl) rfl
theorem q1652 : (Jvm.Cond.instanceMethod ({ cls := "ThreeSizesModel", name := "sort", desc := "(IIII)I" } : Jvm.MethodName)) ∈ lw_all := lw_g (lw_at lw_m7 147 rfl) rfl
theorem q1653 : (Jvm.Cond.selects "ThreeSizesModel" ({ cls := "ThreeSizesModel", name := "sort", desc := "(IIII)I" } : Jvm.MethodName) ({ cls := "ThreeSizesModel", name := "sort", desc := "(IIII)I" } : Jvm.MethodName)) ∈ lw_all := lw_g (lw_at lw_m7 148 rfl) rfl
theorem q1654 : (Jvm.Cond.code ({ cls := "ThreeSizesModel", name := "sort", desc := "(IIII)I" } : Jvm.MethodName) prog_19_method_24_code (6 : Nat) (Option.some Jvm.ClassFile.FieldType.int)) ∈ lw_all := lw_g (lw_at lw_m7 149 rfl) rfl
theorem q1655 : (Jvm.Cond.methodLink "ThreeSizesModel" (146 : Nat) ({ cls := "ThreeSizesModel", name := "add", desc := "(JJJJ)I" } : Jvm.MethodName)) ∈ lw_all := lw_g (lw_at lw_m7 150 rfl) rfl
theorem q1656 : (Jvm.Cond.privateMethod ({ cls := "ThreeSizesModel", name := "add", desc := "(JJJJ)I" } : Jvm.MethodName)) ∈ lw_tbl := lw_at lw_m7 151 rfl
theorem q1657 : (Jvm.Cond.instanceMethod ({ cls := "ThreeSizesModel", name := "add", desc := "(JJJJ)I" } : Jvm.MethodName)) ∈ lw_all := lw_g (lw_at lw_m7 152 rfl) rfl
theorem q1658 : (Jvm.Cond.code ({ cls := "ThreeSizesModel", name := "add", desc := "(JJJJ)I" } : Jvm.MethodName) prog_19_method_23_code (9 : Nat) (Option.some Jvm.ClassFile.FieldType.int)) ∈ lw_all := lw_g (lw_at lw_m7 153 rfl) rfl
theorem q1659 : (Jvm.Cond.constantLong "ThreeSizesModel" (141 : Nat) (100 : Int64)) ∈ lw_all := lw_g (lw_at lw_m7 154 rfl) rfl
theorem q1661 : (Jvm.Cond.instanceMethod ({ cls := "ThreeSizesModel", name := "sorts", desc := "(II)I" } : Jvm.MethodName)) ∈ lw_all := lw_g (lw_at lw_m7 156 rfl) rfl
theorem q1662 : (Jvm.Cond.selects "ThreeSizesModel" ({ cls := "ThreeSizesModel", name := "sorts", desc := "(II)I" } : Jvm.MethodName) ({ cls := "ThreeSizesModel", name := "sorts", desc := "(II)I" } : Jvm.MethodName)) ∈ lw_all := lw_g (lw_at lw_m7 157 rfl) rfl
theorem q1663 : (Jvm.Cond.code ({ cls := "ThreeSizesModel", name := "sorts", desc := "(II)I" } : Jvm.MethodName) prog_19_method_25_code (6 : Nat) (Option.some Jvm.ClassFile.FieldType.int)) ∈ lw_all := lw_g (lw_at lw_m7 158 rfl) rfl
theorem q1664 : (Jvm.Cond.methodLink "ThreeSizesModel" (150 : Nat) ({ cls := "ThreeSizesModel", name := "noRow", desc := "(I)I" } : Jvm.MethodName)) ∈ lw_all := lw_g (lw_at lw_m7 159 rfl) rfl
theorem q1665 : (Jvm.Cond.privateMethod ({ cls := "ThreeSizesModel", name := "noRow", desc := "(I)I" } : Jvm.MethodName)) ∈ lw_tbl := lw_at lw_m7 160 rfl
theorem q1666 : (Jvm.Cond.instanceMethod ({ cls := "ThreeSizesModel", name := "noRow", desc := "(I)I" } : Jvm.MethodName)) ∈ lw_all := lw_g (lw_at lw_m7 161 rfl) rfl
theorem q1667 : (Jvm.Cond.code ({ cls := "ThreeSizesModel", name := "noRow", desc := "(I)I" } : Jvm.MethodName) prog_19_method_26_code (2 : Nat) (Option.some Jvm.ClassFile.FieldType.int)) ∈ lw_all := lw_g (lw_at lw_m7 162 rfl) rfl
theorem q1669 : (Jvm.Cond.instanceMethod ({ cls := "ThreeSizesModel", name := "sortOf", desc := "(II)I" } : Jvm.MethodName)) ∈ lw_all := lw_g (lw_at lw_m7 164 rfl) rfl
theorem q1670 : (Jvm.Cond.selects "ThreeSizesModel" ({ cls := "ThreeSizesModel", name := "sortOf", desc := "(II)I" } : Jvm.MethodName) ({ cls := "ThreeSizesModel", name := "sortOf", desc := "(II)I" } : Jvm.MethodName)) ∈ lw_all := lw_g (lw_at lw_m7 165 rfl) rfl
theorem q1671 : (Jvm.Cond.code ({ cls := "ThreeSizesModel", name := "sortOf", desc := "(II)I" } : Jvm.MethodName) prog_19_method_27_code (3 : Nat) (Option.some Jvm.ClassFile.FieldType.int)) ∈ lw_all := lw_g (lw_at lw_m7 166 rfl) rfl
theorem q1672 : (Jvm.Cond.methodLink "ThreeSizesModel" (153 : Nat) ({ cls := "ThreeSizesModel", name := "isSort", desc := "(J)Z" } : Jvm.MethodName)) ∈ lw_all := lw_g (lw_at lw_m7 167 rfl) rfl
theorem q1673 : (Jvm.Cond.privateMethod ({ cls := "ThreeSizesModel", name := "isSort", desc := "(J)Z" } : Jvm.MethodName)) ∈ lw_tbl := lw_at lw_m7 168 rfl
theorem q1674 : (Jvm.Cond.instanceMethod ({ cls := "ThreeSizesModel", name := "isSort", desc := "(J)Z" } : Jvm.MethodName)) ∈ lw_all := lw_g (lw_at lw_m7 169 rfl) rfl
theorem q1675 : (Jvm.Cond.code ({ cls := "ThreeSizesModel", name := "isSort", desc := "(J)Z" } : Jvm.MethodName) prog_19_method_4_code (3 : Nat) (Option.some Jvm.ClassFile.FieldType.boolean)) ∈ lw_all := lw_g (lw_at lw_m7 170 rfl) rfl
theorem q1676 : (Jvm.Cond.constantLong "ThreeSizesModel" (157 : Nat) (3 : Int64)) ∈ lw_all := lw_g (lw_at lw_m7 171 rfl) rfl
theorem q1678 : (Jvm.Cond.instanceMethod ({ cls := "ThreeSizesModel", name := "ask", desc := "(II)I" } : Jvm.MethodName)) ∈ lw_all := lw_g (lw_at lw_m7 173 rfl) rfl
theorem q1679 : (Jvm.Cond.selects "ThreeSizesModel" ({ cls := "ThreeSizesModel", name := "ask", desc := "(II)I" } : Jvm.MethodName) ({ cls := "ThreeSizesModel", name := "ask", desc := "(II)I" } : Jvm.MethodName)) ∈ lw_all := lw_g (lw_at lw_m7 174 rfl) rfl
theorem q1680 : (Jvm.Cond.code ({ cls := "ThreeSizesModel", name := "ask", desc := "(II)I" } : Jvm.MethodName) prog_19_method_28_code (4 : Nat) (Option.some Jvm.ClassFile.FieldType.int)) ∈ lw_all := lw_g (lw_at lw_m7 175 rfl) rfl
theorem q1682 : (Jvm.Cond.instanceMethod ({ cls := "ThreeSizesModel", name := "feed", desc := "(II)I" } : Jvm.MethodName)) ∈ lw_all := lw_g (lw_at lw_m7 177 rfl) rfl
theorem q1683 : (Jvm.Cond.selects "ThreeSizesModel" ({ cls := "ThreeSizesModel", name := "feed", desc := "(II)I" } : Jvm.MethodName) ({ cls := "ThreeSizesModel", name := "feed", desc := "(II)I" } : Jvm.MethodName)) ∈ lw_all := lw_g (lw_at lw_m7 178 rfl) rfl
theorem q1684 : (Jvm.Cond.code ({ cls := "ThreeSizesModel", name := "feed", desc := "(II)I" } : Jvm.MethodName) prog_19_method_29_code (4 : Nat) (Option.some Jvm.ClassFile.FieldType.int)) ∈ lw_all := lw_g (lw_at lw_m7 179 rfl) rfl
theorem q1686 : (Jvm.Cond.instanceMethod ({ cls := "ThreeSizesModel", name := "wipe", desc := "()I" } : Jvm.MethodName)) ∈ lw_all := lw_g (lw_at lw_m7 181 rfl) rfl
theorem q1687 : (Jvm.Cond.selects "ThreeSizesModel" ({ cls := "ThreeSizesModel", name := "wipe", desc := "()I" } : Jvm.MethodName) ({ cls := "ThreeSizesModel", name := "wipe", desc := "()I" } : Jvm.MethodName)) ∈ lw_all := lw_g (lw_at lw_m7 182 rfl) rfl
theorem q1688 : (Jvm.Cond.code ({ cls := "ThreeSizesModel", name := "wipe", desc := "()I" } : Jvm.MethodName) prog_19_method_30_code (2 : Nat) (Option.some Jvm.ClassFile.FieldType.int)) ∈ lw_all := lw_g (lw_at lw_m7 183 rfl) rfl
theorem q1690 : (Jvm.Cond.instanceMethod ({ cls := "ThreeSizesModel", name := "wall", desc := "()I" } : Jvm.MethodName)) ∈ lw_all := lw_g (lw_at lw_m7 185 rfl) rfl
theorem q1691 : (Jvm.Cond.selects "ThreeSizesModel" ({ cls := "ThreeSizesModel", name := "wall", desc := "()I" } : Jvm.MethodName) ({ cls := "ThreeSizesModel", name := "wall", desc := "()I" } : Jvm.MethodName)) ∈ lw_all := lw_g (lw_at lw_m7 186 rfl) rfl
theorem q1692 : (Jvm.Cond.code ({ cls := "ThreeSizesModel", name := "wall", desc := "()I" } : Jvm.MethodName) prog_19_method_41_code (3 : Nat) (Option.some Jvm.ClassFile.FieldType.int)) ∈ lw_all := lw_g (lw_at lw_m7 187 rfl) rfl
theorem q1693 : (Jvm.Cond.methodLink "ThreeSizesModel" (239 : Nat) ({ cls := "ThreeSizesModel", name := "fresh", desc := "()LThreeSizesModel;" } : Jvm.MethodName)) ∈ lw_all := lw_g (lw_at lw_m7 188 rfl) rfl
theorem q1694 : (Jvm.Cond.privateMethod ({ cls := "ThreeSizesModel", name := "fresh", desc := "()LThreeSizesModel;" } : Jvm.MethodName)) ∈ lw_tbl := lw_at lw_m7 189 rfl
theorem q1695 : (Jvm.Cond.instanceMethod ({ cls := "ThreeSizesModel", name := "fresh", desc := "()LThreeSizesModel;" } : Jvm.MethodName)) ∈ lw_all := lw_g (lw_at lw_m7 190 rfl) rfl
theorem q1696 : (Jvm.Cond.code ({ cls := "ThreeSizesModel", name := "fresh", desc := "()LThreeSizesModel;" } : Jvm.MethodName) prog_19_method_71_code (1 : Nat) (Option.some (Jvm.ClassFile.FieldType.object "ThreeSizesModel"))) ∈ lw_all := lw_g (lw_at lw_m7 191 rfl) rfl
theorem q1697 : (Jvm.Cond.classLink "ThreeSizesModel" (8 : Nat) "ThreeSizesModel") ∈ lw_all := lw_g (lw_at lw_m7 192 rfl) rfl
theorem q1698 : (Jvm.Cond.methodLink "ThreeSizesModel" (347 : Nat) ({ cls := "ThreeSizesModel", name := "<init>", desc := "()V" } : Jvm.MethodName)) ∈ lw_all := lw_g (lw_at lw_m7 193 rfl) rfl
theorem q1699 : (Jvm.Cond.methodLink "ThreeSizesModel" (246 : Nat) ({ cls := "ThreeSizesModel", name := "takeFrom", desc := "(LThreeSizesModel;)V" } : Jvm.MethodName)) ∈ lw_all := lw_g (lw_at lw_m7 194 rfl) rfl
theorem q1700 : (Jvm.Cond.privateMethod ({ cls := "ThreeSizesModel", name := "takeFrom", desc := "(LThreeSizesModel;)V" } : Jvm.MethodName)) ∈ lw_tbl := lw_at lw_m7 195 rfl
theorem q1701 : (Jvm.Cond.instanceMethod ({ cls := "ThreeSizesModel", name := "takeFrom", desc := "(LThreeSizesModel;)V" } : Jvm.MethodName)) ∈ lw_all := lw_g (lw_at lw_m7 196 rfl) rfl
theorem q1702 : (Jvm.Cond.code ({ cls := "ThreeSizesModel", name := "takeFrom", desc := "(LThreeSizesModel;)V" } : Jvm.MethodName) prog_19_method_91_code (3 : Nat) (Option.none : Option Jvm.ClassFile.FieldType)) ∈ lw_all := lw_g (lw_at lw_m7 197 rfl) rfl
theorem q1703 : (Jvm.Cond.methodLink "ThreeSizesModel" (314 : Nat) ({ cls := "ThreeSizesModel", name := "over", desc := "([I[I)V" } : Jvm.MethodName)) ∈ lw_all := lw_g (lw_at lw_m7 198 rfl) rfl
theorem q1704 : (Jvm.Cond.static ({ cls := "ThreeSizesModel", name := "over", desc := "([I[I)V" } : Jvm.MethodName)) ∈ lw_all := lw_g (lw_at lw_m7 199 rfl) rfl
theorem q1705 : (Jvm.Cond.code ({ cls := "ThreeSizesModel", name := "over", desc := "([I[I)V" } : Jvm.MethodName) prog_19_method_90_code (3 : Nat) (Option.none : Option Jvm.ClassFile.FieldType)) ∈ lw_all := lw_g (lw_at lw_m7 200 rfl) rfl
theorem q1706 : (Jvm.Cond.methodLink "ThreeSizesModel" (243 : Nat) ({ cls := "ThreeSizesModel", name := "read", desc := "()Z" } : Jvm.MethodName)) ∈ lw_all := lw_g (lw_at lw_m7 201 rfl) rfl
theorem q1707 : (Jvm.Cond.privateMethod ({ cls := "ThreeSizesModel", name := "read", desc := "()Z" } : Jvm.MethodName)) ∈ lw_tbl := lw_at lw_m7 202 rfl
theorem q1708 : (Jvm.Cond.instanceMethod ({ cls := "ThreeSizesModel", name := "read", desc := "()Z" } : Jvm.MethodName)) ∈ lw_all := lw_g (lw_at lw_m7 203 rfl) rfl
theorem q1709 : (Jvm.Cond.code ({ cls := "ThreeSizesModel", name := "read", desc := "()Z" } : Jvm.MethodName) prog_19_method_40_code (1 : Nat) (Option.some Jvm.ClassFile.FieldType.boolean)) ∈ lw_all := lw_g (lw_at lw_m7 204 rfl) rfl
theorem q1710 : (Jvm.Cond.methodLink "ThreeSizesModel" (202 : Nat) ({ cls := "ThreeSizesModel", name := "look", desc := "()V" } : Jvm.MethodName)) ∈ lw_all := lw_g (lw_at lw_m7 205 rfl) rfl
theorem q1711 : (Jvm.Cond.privateMethod ({ cls := "ThreeSizesModel", name := "look", desc := "()V" } : Jvm.MethodName)) ∈ lw_tbl := lw_at lw_m7 206 rfl
theorem q1712 : (Jvm.Cond.instanceMethod ({ cls := "ThreeSizesModel", name := "look", desc := "()V" } : Jvm.MethodName)) ∈ lw_all := lw_g (lw_at lw_m7 207 rfl) rfl
theorem q1713 : (Jvm.Cond.code ({ cls := "ThreeSizesModel", name := "look", desc := "()V" } : Jvm.MethodName) prog_19_method_33_code (1 : Nat) (Option.none : Option Jvm.ClassFile.FieldType)) ∈ lw_all := lw_g (lw_at lw_m7 208 rfl) rfl
theorem q1714 : (Jvm.Cond.methodLink "ThreeSizesModel" (175 : Nat) ({ cls := "ThreeSizesModel", name := "isLetter", desc := "(I)Z" } : Jvm.MethodName)) ∈ lw_all := lw_g (lw_at lw_m7 209 rfl) rfl
theorem q1715 : (Jvm.Cond.static ({ cls := "ThreeSizesModel", name := "isLetter", desc := "(I)Z" } : Jvm.MethodName)) ∈ lw_all := lw_g (lw_at lw_m7 210 rfl) rfl
theorem q1716 : (Jvm.Cond.code ({ cls := "ThreeSizesModel", name := "isLetter", desc := "(I)Z" } : Jvm.MethodName) prog_19_method_31_code (1 : Nat) (Option.some Jvm.ClassFile.FieldType.boolean)) ∈ lw_all := lw_g (lw_at lw_m7 211 rfl) rfl
theorem q1717 : (Jvm.Cond.methodLink "ThreeSizesModel" (179 : Nat) ({ cls := "ThreeSizesModel", name := "isDigit", desc := "(I)Z" } : Jvm.MethodName)) ∈ lw_all := lw_g (lw_at lw_m7 212 rfl) rfl
theorem q1718 : (Jvm.Cond.static ({ cls := "ThreeSizesModel", name := "isDigit", desc := "(I)Z" } : Jvm.MethodName)) ∈ lw_all := lw_g (lw_at lw_m7 213 rfl) rfl
theorem q1719 : (Jvm.Cond.code ({ cls := "ThreeSizesModel", name := "isDigit", desc := "(I)Z" } : Jvm.MethodName) prog_19_method_32_code (1 : Nat) (Option.some Jvm.ClassFile.FieldType.boolean)) ∈ lw_all := lw_g (lw_at lw_m7 214 rfl) rfl
theorem q1720 : (Jvm.Cond.constantLong "ThreeSizesModel" (182 : Nat) (48 : Int64)) ∈ lw_all := lw_g (lw_at lw_m7 215 rfl) rfl
theorem q1721 : (Jvm.Cond.methodLink "ThreeSizesModel" (236 : Nat) ({ cls := "ThreeSizesModel", name := "statement", desc := "()Z" } : Jvm.MethodName)) ∈ lw_all := lw_g (lw_at lw_m7 216 rfl) rfl
theorem q1722 : (Jvm.Cond.privateMethod ({ cls := "ThreeSizesModel", name := "statement", desc := "()Z" } : Jvm.MethodName)) ∈ lw_tbl := lw_at lw_m7 217 rfl
theorem q1723 : (Jvm.Cond.instanceMethod ({ cls := "ThreeSizesModel", name := "statement", desc := "()Z" } : Jvm.MethodName)) ∈ lw_all := lw_g (lw_at lw_m7 218 rfl) rfl
theorem q1724 : (Jvm.Cond.code ({ cls := "ThreeSizesModel", name := "statement", desc := "()Z" } : Jvm.MethodName) prog_19_method_39_code (3 : Nat) (Option.some Jvm.ClassFile.FieldType.boolean)) ∈ lw_all := lw_g (lw_at lw_m7 219 rfl) rfl
theorem q1725 : (Jvm.Cond.stringRef "ThreeSizesModel" (217 : Nat) "sort") ∈ lw_tbl := lw_at lw_m7 220 rfl
theorem q1726 : (Jvm.Cond.methodLink "ThreeSizesModel" (205 : Nat) ({ cls := "ThreeSizesModel", name := "isWord", desc := "(Ljava/lang/String;)Z" } : Jvm.MethodName)) ∈ lw_all := lw_g (lw_at lw_m7 221 rfl) rfl
theorem q1727 : (Jvm.Cond.privateMethod ({ cls := "ThreeSizesModel", name := "isWord", desc := "(Ljava/lang/String;)Z" } : Jvm.MethodName)) ∈ lw_tbl := lw_at lw_m7 222 rfl
theorem q1728 : (Jvm.Cond.instanceMethod ({ cls := "ThreeSizesModel", name := "isWord", desc := "(Ljava/lang/String;)Z" } : Jvm.MethodName)) ∈ lw_all := lw_g (lw_at lw_m7 223 rfl) rfl
theorem q1729 : (Jvm.Cond.code ({ cls := "ThreeSizesModel", name := "isWord", desc := "(Ljava/lang/String;)Z" } : Jvm.MethodName) prog_19_method_35_code (3 : Nat) (Option.some Jvm.ClassFile.FieldType.boolean)) ∈ lw_all := lw_g (lw_at lw_m7 224 rfl) rfl
theorem q1730 : (Jvm.Cond.methodLink "ThreeSizesModel" (189 : Nat) ({ cls := "java/lang/String", name := "length", desc := "()I" } : Jvm.MethodName)) ∈ lw_all := lw_g (lw_at lw_m7 225 rfl) rfl
theorem q1738 : (Jvm.Cond.methodLink "ThreeSizesModel" (194 : Nat) ({ cls := "java/lang/String", name := "charAt", desc := "(I)C" } : Jvm.MethodName)) ∈ lw_all := lw_g (lw_at lw_m7 233 rfl) rfl
theorem q1749 : (Jvm.Cond.methodLink "ThreeSizesModel" (213 : Nat) ({ cls := "ThreeSizesModel", name := "tells", desc := "(Ljava/lang/String;[IIII)Z" } : Jvm.MethodName)) ∈ lw_all := lw_g (lw_at lw_m8 4 rfl) rfl
theorem q1750 : (Jvm.Cond.privateMethod ({ cls := "ThreeSizesModel", name := "tells", desc := "(Ljava/lang/String;[IIII)Z" } : Jvm.MethodName)) ∈ lw_tbl := lw_at lw_m8 5 rfl
theorem q1751 : (Jvm.Cond.instanceMethod ({ cls := "ThreeSizesModel", name := "tells", desc := "(Ljava/lang/String;[IIII)Z" } : Jvm.MethodName)) ∈ lw_all := lw_g (lw_at lw_m8 6 rfl) rfl
theorem q1752 : (Jvm.Cond.code ({ cls := "ThreeSizesModel", name := "tells", desc := "(Ljava/lang/String;[IIII)Z" } : Jvm.MethodName) prog_19_method_37_code (6 : Nat) (Option.some Jvm.ClassFile.FieldType.boolean)) ∈ lw_all := lw_g (lw_at lw_m8 7 rfl) rfl
theorem q1753 : (Jvm.Cond.methodLink "ThreeSizesModel" (198 : Nat) ({ cls := "ThreeSizesModel", name := "wrong", desc := "()Z" } : Jvm.MethodName)) ∈ lw_all := lw_g (lw_at lw_m8 8 rfl) rfl
theorem q1754 : (Jvm.Cond.privateMethod ({ cls := "ThreeSizesModel", name := "wrong", desc := "()Z" } : Jvm.MethodName)) ∈ lw_tbl := lw_at lw_m8 9 rfl
theorem q1755 : (Jvm.Cond.instanceMethod ({ cls := "ThreeSizesModel", name := "wrong", desc := "()Z" } : Jvm.MethodName)) ∈ lw_all := lw_g (lw_at lw_m8 10 rfl) rfl
theorem q1756 : (Jvm.Cond.code ({ cls := "ThreeSizesModel", name := "wrong", desc := "()Z" } : Jvm.MethodName) prog_19_method_34_code (1 : Nat) (Option.some Jvm.ClassFile.FieldType.boolean)) ∈ lw_all := lw_g (lw_at lw_m8 11 rfl) rfl
theorem q1757 : (Jvm.Cond.methodLink "ThreeSizesModel" (209 : Nat) ({ cls := "ThreeSizesModel", name := "number", desc := "([IIII)Z" } : Jvm.MethodName)) ∈ lw_all := lw_g (lw_at lw_m8 12 rfl) rfl
theorem q1758 : (Jvm.Cond.privateMethod ({ cls := "ThreeSizesModel", name := "number", desc := "([IIII)Z" } : Jvm.MethodName)) ∈ lw_tbl := lw_at lw_m8 13 rfl
theorem q1759 : (Jvm.Cond.instanceMethod ({ cls := "ThreeSizesModel", name := "number", desc := "([IIII)Z" } : Jvm.MethodName)) ∈ lw_all := lw_g (lw_at lw_m8 14 rfl) rfl
theorem q1760 : (Jvm.Cond.code ({ cls := "ThreeSizesModel", name := "number", desc := "([IIII)Z" } : Jvm.MethodName) prog_19_method_36_code (5 : Nat) (Option.some Jvm.ClassFile.FieldType.boolean)) ∈ lw_all := lw_g (lw_at lw_m8 15 rfl) rfl
theorem q1761 : (Jvm.Cond.stringRef "ThreeSizesModel" (218 : Nat) "comes") ∈ lw_tbl := lw_at lw_m8 16 rfl
theorem q1762 : (Jvm.Cond.stringRef "ThreeSizesModel" (219 : Nat) "worth") ∈ lw_tbl := lw_at lw_m8 17 rfl
theorem q1763 : (Jvm.Cond.methodLink "ThreeSizesModel" (221 : Nat) ({ cls := "ThreeSizesModel", name := "perhaps", desc := "(Ljava/lang/String;[IIII)Z" } : Jvm.MethodName)) ∈ lw_all := lw_g (lw_at lw_m8 18 rfl) rfl
theorem q1764 : (Jvm.Cond.privateMethod ({ cls := "ThreeSizesModel", name := "perhaps", desc := "(Ljava/lang/String;[IIII)Z" } : Jvm.MethodName)) ∈ lw_tbl := lw_at lw_m8 19 rfl
theorem q1765 : (Jvm.Cond.instanceMethod ({ cls := "ThreeSizesModel", name := "perhaps", desc := "(Ljava/lang/String;[IIII)Z" } : Jvm.MethodName)) ∈ lw_all := lw_g (lw_at lw_m8 20 rfl) rfl
theorem q1766 : (Jvm.Cond.code ({ cls := "ThreeSizesModel", name := "perhaps", desc := "(Ljava/lang/String;[IIII)Z" } : Jvm.MethodName) prog_19_method_38_code (6 : Nat) (Option.some Jvm.ClassFile.FieldType.boolean)) ∈ lw_all := lw_g (lw_at lw_m8 21 rfl) rfl
theorem q1767 : (Jvm.Cond.stringRef "ThreeSizesModel" (224 : Nat) "back") ∈ lw_tbl := lw_at lw_m8 22 rfl
theorem q1768 : (Jvm.Cond.stringRef "ThreeSizesModel" (226 : Nat) "box") ∈ lw_tbl := lw_at lw_m8 23 rfl
theorem q1769 : (Jvm.Cond.stringRef "ThreeSizesModel" (228 : Nat) "goes") ∈ lw_tbl := lw_at lw_m8 24 rfl
theorem q1770 : (Jvm.Cond.stringRef "ThreeSizesModel" (229 : Nat) "near") ∈ lw_tbl := lw_at lw_m8 25 rfl
theorem q1771 : (Jvm.Cond.stringRef "ThreeSizesModel" (231 : Nat) "way") ∈ lw_tbl := lw_at lw_m8 26 rfl
theorem q1773 : (Jvm.Cond.instanceMethod ({ cls := "ThreeSizesModel", name := "state", desc := "(I)I" } : Jvm.MethodName)) ∈ lw_all := lw_g (lw_at lw_m8 28 rfl) rfl
theorem q1774 : (Jvm.Cond.selects "ThreeSizesModel" ({ cls := "ThreeSizesModel", name := "state", desc := "(I)I" } : Jvm.MethodName) ({ cls := "ThreeSizesModel", name := "state", desc := "(I)I" } : Jvm.MethodName)) ∈ lw_all := lw_g (lw_at lw_m8 29 rfl) rfl
theorem q1775 : (Jvm.Cond.code ({ cls := "ThreeSizesModel", name := "state", desc := "(I)I" } : Jvm.MethodName) prog_19_method_42_code (2 : Nat) (Option.some Jvm.ClassFile.FieldType.int)) ∈ lw_all := lw_g (lw_at lw_m8 30 rfl) rfl
theorem q1777 : (Jvm.Cond.instanceMethod ({ cls := "ThreeSizesModel", name := "lost", desc := "(I)J" } : Jvm.MethodName)) ∈ lw_all := lw_g (lw_at lw_m8 32 rfl) rfl
theorem q1778 : (Jvm.Cond.selects "ThreeSizesModel" ({ cls := "ThreeSizesModel", name := "lost", desc := "(I)J" } : Jvm.MethodName) ({ cls := "ThreeSizesModel", name := "lost", desc := "(I)J" } : Jvm.MethodName)) ∈ lw_all := lw_g (lw_at lw_m8 33 rfl) rfl
theorem q1779 : (Jvm.Cond.code ({ cls := "ThreeSizesModel", name := "lost", desc := "(I)J" } : Jvm.MethodName) prog_19_method_45_code (2 : Nat) (Option.some Jvm.ClassFile.FieldType.long)) ∈ lw_all := lw_g (lw_at lw_m8 34 rfl) rfl
theorem q1780 : (Jvm.Cond.constantLong "ThreeSizesModel" (254 : Nat) (-1000000000000 : Int64)) ∈ lw_all := lw_g (lw_at lw_m8 35 rfl) rfl
theorem q1782 : (Jvm.Cond.instanceMethod ({ cls := "ThreeSizesModel", name := "gets", desc := "(III)I" } : Jvm.MethodName)) ∈ lw_all := lw_g (lw_at lw_m8 37 rfl) rfl
theorem q1783 : (Jvm.Cond.selects "ThreeSizesModel" ({ cls := "ThreeSizesModel", name := "gets", desc := "(III)I" } : Jvm.MethodName) ({ cls := "ThreeSizesModel", name := "gets", desc := "(III)I" } : Jvm.MethodName)) ∈ lw_all := lw_g (lw_at lw_m8 38 rfl) rfl
theorem q1784 : (Jvm.Cond.code ({ cls := "ThreeSizesModel", name := "gets", desc := "(III)I" } : Jvm.MethodName) prog_19_method_51_code (5 : Nat) (Option.some Jvm.ClassFile.FieldType.int)) ∈ lw_all := lw_g (lw_at lw_m8 39 rfl) rfl
theorem q1785 : (Jvm.Cond.methodLink "ThreeSizesModel" (283 : Nat) ({ cls := "ThreeSizesModel", name := "noRule", desc := "(I)I" } : Jvm.MethodName)) ∈ lw_all := lw_g (lw_at lw_m8 40 rfl) rfl
theorem q1786 : (Jvm.Cond.privateMethod ({ cls := "ThreeSizesModel", name := "noRule", desc := "(I)I" } : Jvm.MethodName)) ∈ lw_tbl := lw_at lw_m8 41 rfl
theorem q1787 : (Jvm.Cond.instanceMethod ({ cls := "ThreeSizesModel", name := "noRule", desc := "(I)I" } : Jvm.MethodName)) ∈ lw_all := lw_g (lw_at lw_m8 42 rfl) rfl
theorem q1788 : (Jvm.Cond.code ({ cls := "ThreeSizesModel", name := "noRule", desc := "(I)I" } : Jvm.MethodName) prog_19_method_21_code (2 : Nat) (Option.some Jvm.ClassFile.FieldType.int)) ∈ lw_all := lw_g (lw_at lw_m8 43 rfl) rfl
theorem q1790 : (Jvm.Cond.instanceMethod ({ cls := "ThreeSizesModel", name := "value", desc := "(II)J" } : Jvm.MethodName)) ∈ lw_all := lw_g (lw_at lw_m8 45 rfl) rfl
theorem q1791 : (Jvm.Cond.selects "ThreeSizesModel" ({ cls := "ThreeSizesModel", name := "value", desc := "(II)J" } : Jvm.MethodName) ({ cls := "ThreeSizesModel", name := "value", desc := "(II)J" } : Jvm.MethodName)) ∈ lw_all := lw_g (lw_at lw_m8 46 rfl) rfl
theorem q1792 : (Jvm.Cond.code ({ cls := "ThreeSizesModel", name := "value", desc := "(II)J" } : Jvm.MethodName) prog_19_method_58_code (5 : Nat) (Option.some Jvm.ClassFile.FieldType.long)) ∈ lw_all := lw_g (lw_at lw_m8 47 rfl) rfl
theorem q1793 : (Jvm.Cond.methodLink "ThreeSizesModel" (301 : Nat) ({ cls := "ThreeSizesModel", name := "noValue", desc := "(II)J" } : Jvm.MethodName)) ∈ lw_all := lw_g (lw_at lw_m8 48 rfl) rfl
theorem q1794 : (Jvm.Cond.privateMethod ({ cls := "ThreeSizesModel", name := "noValue", desc := "(II)J" } : Jvm.MethodName)) ∈ lw_tbl := lw_at lw_m8 49 rfl
theorem q1795 : (Jvm.Cond.instanceMethod ({ cls := "ThreeSizesModel", name := "noValue", desc := "(II)J" } : Jvm.MethodName)) ∈ lw_all := lw_g (lw_at lw_m8 50 rfl) rfl
theorem q1796 : (Jvm.Cond.code ({ cls := "ThreeSizesModel", name := "noValue", desc := "(II)J" } : Jvm.MethodName) prog_19_method_57_code (3 : Nat) (Option.some Jvm.ClassFile.FieldType.long)) ∈ lw_all := lw_g (lw_at lw_m8 51 rfl) rfl
theorem q1797 : (Jvm.Cond.methodLink "ThreeSizesModel" (298 : Nat) ({ cls := "ThreeSizesModel", name := "areHours", desc := "(I)Z" } : Jvm.MethodName)) ∈ lw_all := lw_g (lw_at lw_m8 52 rfl) rfl
theorem q1798 : (Jvm.Cond.static ({ cls := "ThreeSizesModel", name := "areHours", desc := "(I)Z" } : Jvm.MethodName)) ∈ lw_all := lw_g (lw_at lw_m8 53 rfl) rfl
theorem q1799 : (Jvm.Cond.code ({ cls := "ThreeSizesModel", name := "areHours", desc := "(I)Z" } : Jvm.MethodName) prog_19_method_5_code (1 : Nat) (Option.some Jvm.ClassFile.FieldType.boolean)) ∈ lw_all := lw_g (lw_at lw_m8 54 rfl) rfl
theorem q1800 : (Jvm.Cond.constantLong "ThreeSizesModel" (92 : Nat) (24 : Int64)) ∈ lw_all := lw_g (lw_at lw_m8 55 rfl) rfl
theorem q1801 : (Jvm.Cond.methodLink "ThreeSizesModel" (294 : Nat) ({ cls := "ThreeSizesModel", name := "valueBy", desc := "(III)J" } : Jvm.MethodName)) ∈ lw_all := lw_g (lw_at lw_m8 56 rfl) rfl
theorem q1802 : (Jvm.Cond.privateMethod ({ cls := "ThreeSizesModel", name := "valueBy", desc := "(III)J" } : Jvm.MethodName)) ∈ lw_tbl := lw_at lw_m8 57 rfl
theorem q1803 : (Jvm.Cond.instanceMethod ({ cls := "ThreeSizesModel", name := "valueBy", desc := "(III)J" } : Jvm.MethodName)) ∈ lw_all := lw_g (lw_at lw_m8 58 rfl) rfl
theorem q1804 : (Jvm.Cond.code ({ cls := "ThreeSizesModel", name := "valueBy", desc := "(III)J" } : Jvm.MethodName) prog_19_method_55_code (4 : Nat) (Option.some Jvm.ClassFile.FieldType.long)) ∈ lw_all := lw_g (lw_at lw_m8 59 rfl) rfl
theorem q1806 : (Jvm.Cond.instanceMethod ({ cls := "ThreeSizesModel", name := "best", desc := "(I)J" } : Jvm.MethodName)) ∈ lw_all := lw_g (lw_at lw_m8 61 rfl) rfl
theorem q1807 : (Jvm.Cond.selects "ThreeSizesModel" ({ cls := "ThreeSizesModel", name := "best", desc := "(I)J" } : Jvm.MethodName) ({ cls := "ThreeSizesModel", name := "best", desc := "(I)J" } : Jvm.MethodName)) ∈ lw_all := lw_g (lw_at lw_m8 62 rfl) rfl
theorem q1808 : (Jvm.Cond.code ({ cls := "ThreeSizesModel", name := "best", desc := "(I)J" } : Jvm.MethodName) prog_19_method_59_code (2 : Nat) (Option.some Jvm.ClassFile.FieldType.long)) ∈ lw_all := lw_g (lw_at lw_m8 63 rfl) rfl
theorem q1809 : (Jvm.Cond.methodLink "ThreeSizesModel" (304 : Nat) ({ cls := "ThreeSizesModel", name := "bestNow", desc := "(I)J" } : Jvm.MethodName)) ∈ lw_all := lw_g (lw_at lw_m8 64 rfl) rfl
theorem q1810 : (Jvm.Cond.privateMethod ({ cls := "ThreeSizesModel", name := "bestNow", desc := "(I)J" } : Jvm.MethodName)) ∈ lw_tbl := lw_at lw_m8 65 rfl
theorem q1811 : (Jvm.Cond.instanceMethod ({ cls := "ThreeSizesModel", name := "bestNow", desc := "(I)J" } : Jvm.MethodName)) ∈ lw_all := lw_g (lw_at lw_m8 66 rfl) rfl
theorem q1812 : (Jvm.Cond.code ({ cls := "ThreeSizesModel", name := "bestNow", desc := "(I)J" } : Jvm.MethodName) prog_19_method_56_code (2 : Nat) (Option.some Jvm.ClassFile.FieldType.long)) ∈ lw_all := lw_g (lw_at lw_m8 67 rfl) rfl
theorem q1814 : (Jvm.Cond.instanceMethod ({ cls := "ThreeSizesModel", name := "now", desc := "(II)I" } : Jvm.MethodName)) ∈ lw_all := lw_g (lw_at lw_m8 69 rfl) rfl
theorem q1815 : (Jvm.Cond.selects "ThreeSizesModel" ({ cls := "ThreeSizesModel", name := "now", desc := "(II)I" } : Jvm.MethodName) ({ cls := "ThreeSizesModel", name := "now", desc := "(II)I" } : Jvm.MethodName)) ∈ lw_all := lw_g (lw_at lw_m8 70 rfl) rfl
theorem q1816 : (Jvm.Cond.code ({ cls := "ThreeSizesModel", name := "now", desc := "(II)I" } : Jvm.MethodName) prog_19_method_60_code (3 : Nat) (Option.some Jvm.ClassFile.FieldType.int)) ∈ lw_all := lw_g (lw_at lw_m8 71 rfl) rfl
theorem q1818 : (Jvm.Cond.instanceMethod ({ cls := "ThreeSizesModel", name := "gap", desc := "(II)J" } : Jvm.MethodName)) ∈ lw_all := lw_g (lw_at lw_m8 73 rfl) rfl
theorem q1819 : (Jvm.Cond.selects "ThreeSizesModel" ({ cls := "ThreeSizesModel", name := "gap", desc := "(II)J" } : Jvm.MethodName) ({ cls := "ThreeSizesModel", name := "gap", desc := "(II)J" } : Jvm.MethodName)) ∈ lw_all := lw_g (lw_at lw_m8 74 rfl) rfl
theorem q1820 : (Jvm.Cond.code ({ cls := "ThreeSizesModel", name := "gap", desc := "(II)J" } : Jvm.MethodName) prog_19_method_61_code (5 : Nat) (Option.some Jvm.ClassFile.FieldType.long)) ∈ lw_all := lw_g (lw_at lw_m8 75 rfl) rfl
theorem q1822 : (Jvm.Cond.instanceMethod ({ cls := "ThreeSizesModel", name := "head", desc := "(I)I" } : Jvm.MethodName)) ∈ lw_all := lw_g (lw_at lw_m8 77 rfl) rfl
theorem q1823 : (Jvm.Cond.selects "ThreeSizesModel" ({ cls := "ThreeSizesModel", name := "head", desc := "(I)I" } : Jvm.MethodName) ({ cls := "ThreeSizesModel", name := "head", desc := "(I)I" } : Jvm.MethodName)) ∈ lw_all := lw_g (lw_at lw_m8 78 rfl) rfl
theorem q1824 : (Jvm.Cond.code ({ cls := "ThreeSizesModel", name := "head", desc := "(I)I" } : Jvm.MethodName) prog_19_method_62_code (8 : Nat) (Option.some Jvm.ClassFile.FieldType.int)) ∈ lw_all := lw_g (lw_at lw_m8 79 rfl) rfl
theorem q1826 : (Jvm.Cond.instanceMethod ({ cls := "ThreeSizesModel", name := "keep", desc := "(I)I" } : Jvm.MethodName)) ∈ lw_all := lw_g (lw_at lw_m8 81 rfl) rfl
theorem q1827 : (Jvm.Cond.selects "ThreeSizesModel" ({ cls := "ThreeSizesModel", name := "keep", desc := "(I)I" } : Jvm.MethodName) ({ cls := "ThreeSizesModel", name := "keep", desc := "(I)I" } : Jvm.MethodName)) ∈ lw_all := lw_g (lw_at lw_m8 82 rfl) rfl
theorem q1828 : (Jvm.Cond.code ({ cls := "ThreeSizesModel", name := "keep", desc := "(I)I" } : Jvm.MethodName) prog_19_method_63_code (8 : Nat) (Option.some Jvm.ClassFile.FieldType.int)) ∈ lw_all := lw_g (lw_at lw_m8 83 rfl) rfl
theorem q1830 : (Jvm.Cond.instanceMethod ({ cls := "ThreeSizesModel", name := "cart", desc := "(IIII)J" } : Jvm.MethodName)) ∈ lw_all := lw_g (lw_at lw_m8 85 rfl) rfl
theorem q1831 : (Jvm.Cond.selects "ThreeSizesModel" ({ cls := "ThreeSizesModel", name := "cart", desc := "(IIII)J" } : Jvm.MethodName) ({ cls := "ThreeSizesModel", name := "cart", desc := "(IIII)J" } : Jvm.MethodName)) ∈ lw_all := lw_g (lw_at lw_m8 86 rfl) rfl
theorem q1832 : (Jvm.Cond.code ({ cls := "ThreeSizesModel", name := "cart", desc := "(IIII)J" } : Jvm.MethodName) prog_19_method_66_code (6 : Nat) (Option.some Jvm.ClassFile.FieldType.long)) ∈ lw_all := lw_g (lw_at lw_m8 87 rfl) rfl
theorem q1833 : (Jvm.Cond.constantLong "ThreeSizesModel" (322 : Nat) (-1 : Int64)) ∈ lw_all := lw_g (lw_at lw_m8 88 rfl) rfl
theorem q1834 : (Jvm.Cond.methodLink "ThreeSizesModel" (324 : Nat) ({ cls := "ThreeSizesModel", name := "areSorts", desc := "(II)Z" } : Jvm.MethodName)) ∈ lw_all := lw_g (lw_at lw_m8 89 rfl) rfl
theorem q1835 : (Jvm.Cond.privateMethod ({ cls := "ThreeSizesModel", name := "areSorts", desc := "(II)Z" } : Jvm.MethodName)) ∈ lw_tbl := lw_at lw_m8 90 rfl
theorem q1836 : (Jvm.Cond.instanceMethod ({ cls := "ThreeSizesModel", name := "areSorts", desc := "(II)Z" } : Jvm.MethodName)) ∈ lw_all := lw_g (lw_at lw_m8 91 rfl) rfl
theorem q1837 : (Jvm.Cond.code ({ cls := "ThreeSizesModel", name := "areSorts", desc := "(II)Z" } : Jvm.MethodName) prog_19_method_65_code (4 : Nat) (Option.some Jvm.ClassFile.FieldType.boolean)) ∈ lw_all := lw_g (lw_at lw_m8 92 rfl) rfl
theorem q1838 : (Jvm.Cond.methodLink "ThreeSizesModel" (318 : Nat) ({ cls := "ThreeSizesModel", name := "place", desc := "(IIIJI)V" } : Jvm.MethodName)) ∈ lw_all := lw_g (lw_at lw_m8 93 rfl) rfl
theorem q1839 : (Jvm.Cond.privateMethod ({ cls := "ThreeSizesModel", name := "place", desc := "(IIIJI)V" } : Jvm.MethodName)) ∈ lw_tbl := lw_at lw_m8 94 rfl
theorem q1840 : (Jvm.Cond.instanceMethod ({ cls := "ThreeSizesModel", name := "place", desc := "(IIIJI)V" } : Jvm.MethodName)) ∈ lw_all := lw_g (lw_at lw_m8 95 rfl) rfl
theorem q1841 : (Jvm.Cond.code ({ cls := "ThreeSizesModel", name := "place", desc := "(IIIJI)V" } : Jvm.MethodName) prog_19_method_64_code (9 : Nat) (Option.none : Option Jvm.ClassFile.FieldType)) ∈ lw_all := lw_g (lw_at lw_m8 96 rfl) rfl
theorem q1843 : (Jvm.Cond.instanceMethod ({ cls := "ThreeSizesModel", name := "judge", desc := "(III)I" } : Jvm.MethodName)) ∈ lw_all := lw_g (lw_at lw_m8 98 rfl) rfl
theorem q1844 : (Jvm.Cond.selects "ThreeSizesModel" ({ cls := "ThreeSizesModel", name := "judge", desc := "(III)I" } : Jvm.MethodName) ({ cls := "ThreeSizesModel", name := "judge", desc := "(III)I" } : Jvm.MethodName)) ∈ lw_all := lw_g (lw_at lw_m8 99 rfl) rfl
theorem q1845 : (Jvm.Cond.code ({ cls := "ThreeSizesModel", name := "judge", desc := "(III)I" } : Jvm.MethodName) prog_19_method_69_code (5 : Nat) (Option.some Jvm.ClassFile.FieldType.int)) ∈ lw_all := lw_g (lw_at lw_m8 100 rfl) rfl
theorem q1846 : (Jvm.Cond.methodLink "ThreeSizesModel" (336 : Nat) ({ cls := "ThreeSizesModel", name := "noPlacing", desc := "(III)I" } : Jvm.MethodName)) ∈ lw_all := lw_g (lw_at lw_m8 101 rfl) rfl
theorem q1847 : (Jvm.Cond.privateMethod ({ cls := "ThreeSizesModel", name := "noPlacing", desc := "(III)I" } : Jvm.MethodName)) ∈ lw_tbl := lw_at lw_m8 102 rfl
theorem q1848 : (Jvm.Cond.instanceMethod ({ cls := "ThreeSizesModel", name := "noPlacing", desc := "(III)I" } : Jvm.MethodName)) ∈ lw_all := lw_g (lw_at lw_m8 103 rfl) rfl
theorem q1849 : (Jvm.Cond.code ({ cls := "ThreeSizesModel", name := "noPlacing", desc := "(III)I" } : Jvm.MethodName) prog_19_method_68_code (4 : Nat) (Option.some Jvm.ClassFile.FieldType.int)) ∈ lw_all := lw_g (lw_at lw_m8 104 rfl) rfl
theorem q1850 : (Jvm.Cond.methodLink "ThreeSizesModel" (339 : Nat) ({ cls := "ThreeSizesModel", name := "goThrough", desc := "(II)V" } : Jvm.MethodName)) ∈ lw_all := lw_g (lw_at lw_m8 105 rfl) rfl
theorem q1851 : (Jvm.Cond.privateMethod ({ cls := "ThreeSizesModel", name := "goThrough", desc := "(II)V" } : Jvm.MethodName)) ∈ lw_tbl := lw_at lw_m8 106 rfl
theorem q1852 : (Jvm.Cond.instanceMethod ({ cls := "ThreeSizesModel", name := "goThrough", desc := "(II)V" } : Jvm.MethodName)) ∈ lw_all := lw_g (lw_at lw_m8 107 rfl) rfl
theorem q1853 : (Jvm.Cond.code ({ cls := "ThreeSizesModel", name := "goThrough", desc := "(II)V" } : Jvm.MethodName) prog_19_method_67_code (5 : Nat) (Option.none : Option Jvm.ClassFile.FieldType)) ∈ lw_all := lw_g (lw_at lw_m8 108 rfl) rfl
theorem q1855 : (Jvm.Cond.instanceMethod ({ cls := "ThreeSizesModel", name := "put", desc := "(III)I" } : Jvm.MethodName)) ∈ lw_all := lw_g (lw_at lw_m8 110 rfl) rfl
theorem q1856 : (Jvm.Cond.selects "ThreeSizesModel" ({ cls := "ThreeSizesModel", name := "put", desc := "(III)I" } : Jvm.MethodName) ({ cls := "ThreeSizesModel", name := "put", desc := "(III)I" } : Jvm.MethodName)) ∈ lw_all := lw_g (lw_at lw_m8 111 rfl) rfl
theorem q1857 : (Jvm.Cond.code ({ cls := "ThreeSizesModel", name := "put", desc := "(III)I" } : Jvm.MethodName) prog_19_method_70_code (6 : Nat) (Option.some Jvm.ClassFile.FieldType.int)) ∈ lw_all := lw_g (lw_at lw_m8 112 rfl) rfl
theorem q1859 : (Jvm.Cond.instanceMethod ({ cls := "ThreeSizesModel", name := "build", desc := "(III)I" } : Jvm.MethodName)) ∈ lw_all := lw_g (lw_at lw_m8 114 rfl) rfl
theorem q1860 : (Jvm.Cond.selects "ThreeSizesModel" ({ cls := "ThreeSizesModel", name := "build", desc := "(III)I" } : Jvm.MethodName) ({ cls := "ThreeSizesModel", name := "build", desc := "(III)I" } : Jvm.MethodName)) ∈ lw_all := lw_g (lw_at lw_m8 115 rfl) rfl
theorem q1861 : (Jvm.Cond.code ({ cls := "ThreeSizesModel", name := "build", desc := "(III)I" } : Jvm.MethodName) prog_19_method_72_code (11 : Nat) (Option.some Jvm.ClassFile.FieldType.int)) ∈ lw_all := lw_g (lw_at lw_m8 116 rfl) rfl
theorem q1862 : (Jvm.Cond.constantLong "ThreeSizesModel" (348 : Nat) (30 : Int64)) ∈ lw_all := lw_g (lw_at lw_m8 117 rfl) rfl
theorem q1863 : (Jvm.Cond.methodLink "ThreeSizesModel" (350 : Nat) ({ cls := "ThreeSizesModel", name := "takes", desc := "(I)I" } : Jvm.MethodName)) ∈ lw_all := lw_g (lw_at lw_m8 118 rfl) rfl
theorem q1864 : (Jvm.Cond.static ({ cls := "ThreeSizesModel", name := "takes", desc := "(I)I" } : Jvm.MethodName)) ∈ lw_all := lw_g (lw_at lw_m8 119 rfl) rfl
theorem q1865 : (Jvm.Cond.code ({ cls := "ThreeSizesModel", name := "takes", desc := "(I)I" } : Jvm.MethodName) prog_19_method_73_code (1 : Nat) (Option.some Jvm.ClassFile.FieldType.int)) ∈ lw_all := lw_g (lw_at lw_m8 120 rfl) rfl
theorem q1867 : (Jvm.Cond.instanceMethod ({ cls := "ThreeSizesModel", name := "worth", desc := "(II)J" } : Jvm.MethodName)) ∈ lw_all := lw_g (lw_at lw_m8 122 rfl) rfl
theorem q1868 : (Jvm.Cond.selects "ThreeSizesModel" ({ cls := "ThreeSizesModel", name := "worth", desc := "(II)J" } : Jvm.MethodName) ({ cls := "ThreeSizesModel", name := "worth", desc := "(II)J" } : Jvm.MethodName)) ∈ lw_all := lw_g (lw_at lw_m8 123 rfl) rfl
theorem q1869 : (Jvm.Cond.code ({ cls := "ThreeSizesModel", name := "worth", desc := "(II)J" } : Jvm.MethodName) prog_19_method_75_code (4 : Nat) (Option.some Jvm.ClassFile.FieldType.long)) ∈ lw_all := lw_g (lw_at lw_m8 124 rfl) rfl
theorem q1870 : (Jvm.Cond.methodLink "ThreeSizesModel" (353 : Nat) ({ cls := "ThreeSizesModel", name := "isFree", desc := "(I)Z" } : Jvm.MethodName)) ∈ lw_all := lw_g (lw_at lw_m8 125 rfl) rfl
theorem q1871 : (Jvm.Cond.privateMethod ({ cls := "ThreeSizesModel", name := "isFree", desc := "(I)Z" } : Jvm.MethodName)) ∈ lw_tbl := lw_at lw_m8 126 rfl
theorem q1872 : (Jvm.Cond.instanceMethod ({ cls := "ThreeSizesModel", name := "isFree", desc := "(I)Z" } : Jvm.MethodName)) ∈ lw_all := lw_g (lw_at lw_m8 127 rfl) rfl
theorem q1873 : (Jvm.Cond.code ({ cls := "ThreeSizesModel", name := "isFree", desc := "(I)Z" } : Jvm.MethodName) prog_19_method_74_code (2 : Nat) (Option.some Jvm.ClassFile.FieldType.boolean)) ∈ lw_all := lw_g (lw_at lw_m8 128 rfl) rfl
theorem q1875 : (Jvm.Cond.instanceMethod ({ cls := "ThreeSizesModel", name := "price", desc := "(II)J" } : Jvm.MethodName)) ∈ lw_all := lw_g (lw_at lw_m8 130 rfl) rfl
theorem q1876 : (Jvm.Cond.selects "ThreeSizesModel" ({ cls := "ThreeSizesModel", name := "price", desc := "(II)J" } : Jvm.MethodName) ({ cls := "ThreeSizesModel", name := "price", desc := "(II)J" } : Jvm.MethodName)) ∈ lw_all := lw_g (lw_at lw_m8 131 rfl) rfl
theorem q1877 : (Jvm.Cond.code ({ cls := "ThreeSizesModel", name := "price", desc := "(II)J" } : Jvm.MethodName) prog_19_method_76_code (4 : Nat) (Option.some Jvm.ClassFile.FieldType.long)) ∈ lw_all := lw_g (lw_at lw_m8 132 rfl) rfl
theorem q1879 : (Jvm.Cond.instanceMethod ({ cls := "ThreeSizesModel", name := "brings", desc := "(II)J" } : Jvm.MethodName)) ∈ lw_all := lw_g (lw_at lw_m8 134 rfl) rfl
theorem q1880 : (Jvm.Cond.selects "ThreeSizesModel" ({ cls := "ThreeSizesModel", name := "brings", desc := "(II)J" } : Jvm.MethodName) ({ cls := "ThreeSizesModel", name := "brings", desc := "(II)J" } : Jvm.MethodName)) ∈ lw_all := lw_g (lw_at lw_m8 135 rfl) rfl
theorem q1881 : (Jvm.Cond.code ({ cls := "ThreeSizesModel", name := "brings", desc := "(II)J" } : Jvm.MethodName) prog_19_method_77_code (4 : Nat) (Option.some Jvm.ClassFile.FieldType.long)) ∈ lw_all := lw_g (lw_at lw_m8 136 rfl) rfl
theorem q1883 : (Jvm.Cond.instanceMethod ({ cls := "ThreeSizesModel", name := "fits", desc := "(I)I" } : Jvm.MethodName)) ∈ lw_all := lw_g (lw_at lw_m8 138 rfl) rfl
theorem q1884 : (Jvm.Cond.selects "ThreeSizesModel" ({ cls := "ThreeSizesModel", name := "fits", desc := "(I)I" } : Jvm.MethodName) ({ cls := "ThreeSizesModel", name := "fits", desc := "(I)I" } : Jvm.MethodName)) ∈ lw_all := lw_g (lw_at lw_m8 139 rfl) rfl
theorem q1885 : (Jvm.Cond.code ({ cls := "ThreeSizesModel", name := "fits", desc := "(I)I" } : Jvm.MethodName) prog_19_method_78_code (4 : Nat) (Option.some Jvm.ClassFile.FieldType.int)) ∈ lw_all := lw_g (lw_at lw_m8 140 rfl) rfl
theorem q1887 : (Jvm.Cond.instanceMethod ({ cls := "ThreeSizesModel", name := "worst", desc := "(I)I" } : Jvm.MethodName)) ∈ lw_all := lw_g (lw_at lw_m8 142 rfl) rfl
theorem q1888 : (Jvm.Cond.selects "ThreeSizesModel" ({ cls := "ThreeSizesModel", name := "worst", desc := "(I)I" } : Jvm.MethodName) ({ cls := "ThreeSizesModel", name := "worst", desc := "(I)I" } : Jvm.MethodName)) ∈ lw_all := lw_g (lw_at lw_m8 143 rfl) rfl
theorem q1889 : (Jvm.Cond.code ({ cls := "ThreeSizesModel", name := "worst", desc := "(I)I" } : Jvm.MethodName) prog_19_method_79_code (4 : Nat) (Option.some Jvm.ClassFile.FieldType.int)) ∈ lw_all := lw_g (lw_at lw_m8 144 rfl) rfl
theorem q1891 : (Jvm.Cond.instanceMethod ({ cls := "ThreeSizesModel", name := "board", desc := "(I)J" } : Jvm.MethodName)) ∈ lw_all := lw_g (lw_at lw_m8 146 rfl) rfl
theorem q1892 : (Jvm.Cond.selects "ThreeSizesModel" ({ cls := "ThreeSizesModel", name := "board", desc := "(I)J" } : Jvm.MethodName) ({ cls := "ThreeSizesModel", name := "board", desc := "(I)J" } : Jvm.MethodName)) ∈ lw_all := lw_g (lw_at lw_m8 147 rfl) rfl
theorem q1893 : (Jvm.Cond.code ({ cls := "ThreeSizesModel", name := "board", desc := "(I)J" } : Jvm.MethodName) prog_19_method_80_code (3 : Nat) (Option.some Jvm.ClassFile.FieldType.long)) ∈ lw_all := lw_g (lw_at lw_m8 148 rfl) rfl
theorem q1895 : (Jvm.Cond.instanceMethod ({ cls := "ThreeSizesModel", name := "letter", desc := "(II)J" } : Jvm.MethodName)) ∈ lw_all := lw_g (lw_at lw_m8 150 rfl) rfl
theorem q1896 : (Jvm.Cond.selects "ThreeSizesModel" ({ cls := "ThreeSizesModel", name := "letter", desc := "(II)J" } : Jvm.MethodName) ({ cls := "ThreeSizesModel", name := "letter", desc := "(II)J" } : Jvm.MethodName)) ∈ lw_all := lw_g (lw_at lw_m8 151 rfl) rfl
theorem q1897 : (Jvm.Cond.code ({ cls := "ThreeSizesModel", name := "letter", desc := "(II)J" } : Jvm.MethodName) prog_19_method_82_code (3 : Nat) (Option.some Jvm.ClassFile.FieldType.long)) ∈ lw_all := lw_g (lw_at lw_m8 152 rfl) rfl
theorem q1898 : (Jvm.Cond.methodLink "ThreeSizesModel" (356 : Nat) ({ cls := "ThreeSizesModel", name := "letterOf", desc := "(II)J" } : Jvm.MethodName)) ∈ lw_all := lw_g (lw_at lw_m8 153 rfl) rfl
theorem q1899 : (Jvm.Cond.privateMethod ({ cls := "ThreeSizesModel", name := "letterOf", desc := "(II)J" } : Jvm.MethodName)) ∈ lw_tbl := lw_at lw_m8 154 rfl
theorem q1900 : (Jvm.Cond.instanceMethod ({ cls := "ThreeSizesModel", name := "letterOf", desc := "(II)J" } : Jvm.MethodName)) ∈ lw_all := lw_g (lw_at lw_m8 155 rfl) rfl
theorem q1901 : (Jvm.Cond.code ({ cls := "ThreeSizesModel", name := "letterOf", desc := "(II)J" } : Jvm.MethodName) prog_19_method_81_code (5 : Nat) (Option.some Jvm.ClassFile.FieldType.long)) ∈ lw_all := lw_g (lw_at lw_m8 156 rfl) rfl
theorem q1903 : (Jvm.Cond.instanceMethod ({ cls := "ThreeSizesModel", name := "whom", desc := "(I)I" } : Jvm.MethodName)) ∈ lw_all := lw_g (lw_at lw_m8 158 rfl) rfl
theorem q1904 : (Jvm.Cond.selects "ThreeSizesModel" ({ cls := "ThreeSizesModel", name := "whom", desc := "(I)I" } : Jvm.MethodName) ({ cls := "ThreeSizesModel", name := "whom", desc := "(I)I" } : Jvm.MethodName)) ∈ lw_all := lw_g (lw_at lw_m8 159 rfl) rfl
theorem q1905 : (Jvm.Cond.code ({ cls := "ThreeSizesModel", name := "whom", desc := "(I)I" } : Jvm.MethodName) prog_19_method_83_code (8 : Nat) (Option.some Jvm.ClassFile.FieldType.int)) ∈ lw_all := lw_g (lw_at lw_m8 160 rfl) rfl
theorem q1907 : (Jvm.Cond.instanceMethod ({ cls := "ThreeSizesModel", name := "feast", desc := "(II)J" } : Jvm.MethodName)) ∈ lw_all := lw_g (lw_at lw_m8 162 rfl) rfl
theorem q1908 : (Jvm.Cond.selects "ThreeSizesModel" ({ cls := "ThreeSizesModel", name := "feast", desc := "(II)J" } : Jvm.MethodName) ({ cls := "ThreeSizesModel", name := "feast", desc := "(II)J" } : Jvm.MethodName)) ∈ lw_all := lw_g (lw_at lw_m8 163 rfl) rfl
theorem q1909 : (Jvm.Cond.code ({ cls := "ThreeSizesModel", name := "feast", desc := "(II)J" } : Jvm.MethodName) prog_19_method_84_code (5 : Nat) (Option.some Jvm.ClassFile.FieldType.long)) ∈ lw_all := lw_g (lw_at lw_m8 164 rfl) rfl
theorem q1910 : (Jvm.Cond.constantLong "ThreeSizesModel" (359 : Nat) (50 : Int64)) ∈ lw_all := lw_g (lw_at lw_m8 165 rfl) rfl
theorem q1912 : (Jvm.Cond.instanceMethod ({ cls := "ThreeSizesModel", name := "go", desc := "(II)I" } : Jvm.MethodName)) ∈ lw_all := lw_g (lw_at lw_m8 167 rfl) rfl
theorem q1913 : (Jvm.Cond.selects "ThreeSizesModel" ({ cls := "ThreeSizesModel", name := "go", desc := "(II)I" } : Jvm.MethodName) ({ cls := "ThreeSizesModel", name := "go", desc := "(II)I" } : Jvm.MethodName)) ∈ lw_all := lw_g (lw_at lw_m8 168 rfl) rfl
theorem q1914 : (Jvm.Cond.code ({ cls := "ThreeSizesModel", name := "go", desc := "(II)I" } : Jvm.MethodName) prog_19_method_87_code (7 : Nat) (Option.some Jvm.ClassFile.FieldType.int)) ∈ lw_all := lw_g (lw_at lw_m8 169 rfl) rfl
theorem q1915 : (Jvm.Cond.constantLong "ThreeSizesModel" (365 : Nat) (200 : Int64)) ∈ lw_all := lw_g (lw_at lw_m8 170 rfl) rfl
theorem q1916 : (Jvm.Cond.constant "ThreeSizesModel" (367 : Nat) (1000000 : Int32)) ∈ lw_all := lw_g (lw_at lw_m8 171 rfl) rfl
theorem q1917 : (Jvm.Cond.methodLink "ThreeSizesModel" (368 : Nat) ({ cls := "ThreeSizesModel", name := "hour", desc := "(II)I" } : Jvm.MethodName)) ∈ lw_all := lw_g (lw_at lw_m8 172 rfl) rfl
theorem q1918 : (Jvm.Cond.privateMethod ({ cls := "ThreeSizesModel", name := "hour", desc := "(II)I" } : Jvm.MethodName)) ∈ lw_tbl := lw_at lw_m8 173 rfl
theorem q1919 : (Jvm.Cond.instanceMethod ({ cls := "ThreeSizesModel", name := "hour", desc := "(II)I" } : Jvm.MethodName)) ∈ lw_all := lw_g (lw_at lw_m8 174 rfl) rfl
theorem q1920 : (Jvm.Cond.code ({ cls := "ThreeSizesModel", name := "hour", desc := "(II)I" } : Jvm.MethodName) prog_19_method_86_code (6 : Nat) (Option.some Jvm.ClassFile.FieldType.int)) ∈ lw_all := lw_g (lw_at lw_m8 175 rfl) rfl
theorem q1921 : (Jvm.Cond.methodLink "ThreeSizesModel" (362 : Nat) ({ cls := "ThreeSizesModel", name := "draw", desc := "(I)I" } : Jvm.MethodName)) ∈ lw_all := lw_g (lw_at lw_m8 176 rfl) rfl
theorem q1922 : (Jvm.Cond.privateMethod ({ cls := "ThreeSizesModel", name := "draw", desc := "(I)I" } : Jvm.MethodName)) ∈ lw_tbl := lw_at lw_m8 177 rfl
theorem q1923 : (Jvm.Cond.instanceMethod ({ cls := "ThreeSizesModel", name := "draw", desc := "(I)I" } : Jvm.MethodName)) ∈ lw_all := lw_g (lw_at lw_m8 178 rfl) rfl
theorem q1924 : (Jvm.Cond.code ({ cls := "ThreeSizesModel", name := "draw", desc := "(I)I" } : Jvm.MethodName) prog_19_method_85_code (2 : Nat) (Option.some Jvm.ClassFile.FieldType.int)) ∈ lw_all := lw_g (lw_at lw_m8 179 rfl) rfl
theorem q1925 : (Jvm.Cond.constant "ThreeSizesModel" (361 : Nat) (1103515245 : Int32)) ∈ lw_all := lw_g (lw_at lw_m8 180 rfl) rfl
theorem q1927 : (Jvm.Cond.instanceMethod ({ cls := "ThreeSizesModel", name := "day", desc := "(I)I" } : Jvm.MethodName)) ∈ lw_all := lw_g (lw_at lw_m8 182 rfl) rfl
theorem q1928 : (Jvm.Cond.selects "ThreeSizesModel" ({ cls := "ThreeSizesModel", name := "day", desc := "(I)I" } : Jvm.MethodName) ({ cls := "ThreeSizesModel", name := "day", desc := "(I)I" } : Jvm.MethodName)) ∈ lw_all := lw_g (lw_at lw_m8 183 rfl) rfl
theorem q1929 : (Jvm.Cond.code ({ cls := "ThreeSizesModel", name := "day", desc := "(I)I" } : Jvm.MethodName) prog_19_method_88_code (2 : Nat) (Option.some Jvm.ClassFile.FieldType.int)) ∈ lw_all := lw_g (lw_at lw_m8 184 rfl) rfl
theorem q1930 : (Jvm.Cond.constantLong "ThreeSizesModel" (371 : Nat) (5 : Int64)) ∈ lw_all := lw_g (lw_at lw_m8 185 rfl) rfl
theorem q1932 : (Jvm.Cond.instanceMethod ({ cls := "ThreeSizesModel", name := "seed", desc := "(I)I" } : Jvm.MethodName)) ∈ lw_all := lw_g (lw_at lw_m8 187 rfl) rfl
theorem q1933 : (Jvm.Cond.selects "ThreeSizesModel" ({ cls := "ThreeSizesModel", name := "seed", desc := "(I)I" } : Jvm.MethodName) ({ cls := "ThreeSizesModel", name := "seed", desc := "(I)I" } : Jvm.MethodName)) ∈ lw_all := lw_g (lw_at lw_m8 188 rfl) rfl
theorem q1934 : (Jvm.Cond.code ({ cls := "ThreeSizesModel", name := "seed", desc := "(I)I" } : Jvm.MethodName) prog_19_method_89_code (3 : Nat) (Option.some Jvm.ClassFile.FieldType.int)) ∈ lw_all := lw_g (lw_at lw_m8 189 rfl) rfl
theorem q1936 : (Jvm.Cond.instanceMethod ({ cls := "ThreeSizesModel", name := "image", desc := "()I" } : Jvm.MethodName)) ∈ lw_all := lw_g (lw_at lw_m8 191 rfl) rfl
theorem q1937 : (Jvm.Cond.selects "ThreeSizesModel" ({ cls := "ThreeSizesModel", name := "image", desc := "()I" } : Jvm.MethodName) ({ cls := "ThreeSizesModel", name := "image", desc := "()I" } : Jvm.MethodName)) ∈ lw_all := lw_g (lw_at lw_m8 192 rfl) rfl
theorem q1938 : (Jvm.Cond.code ({ cls := "ThreeSizesModel", name := "image", desc := "()I" } : Jvm.MethodName) prog_19_method_92_code (1 : Nat) (Option.some Jvm.ClassFile.FieldType.int)) ∈ lw_all := lw_g (lw_at lw_m8 193 rfl) rfl
theorem q1940 : (Jvm.Cond.instanceMethod ({ cls := "ThreeSizesModel", name := "back", desc := "()I" } : Jvm.MethodName)) ∈ lw_all := lw_g (lw_at lw_m8 195 rfl) rfl
theorem q1941 : (Jvm.Cond.selects "ThreeSizesModel" ({ cls := "ThreeSizesModel", name := "back", desc := "()I" } : Jvm.MethodName) ({ cls := "ThreeSizesModel", name := "back", desc := "()I" } : Jvm.MethodName)) ∈ lw_all := lw_g (lw_at lw_m8 196 rfl) rfl
theorem q1942 : (Jvm.Cond.code ({ cls := "ThreeSizesModel", name := "back", desc := "()I" } : Jvm.MethodName) prog_19_method_93_code (1 : Nat) (Option.some Jvm.ClassFile.FieldType.int)) ∈ lw_all := lw_g (lw_at lw_m8 197 rfl) rfl
theorem q1944 : (Jvm.Cond.instanceMethod ({ cls := "ThreeSizesModel", name := "status", desc := "(I)I" } : Jvm.MethodName)) ∈ lw_all := lw_g (lw_at lw_m8 199 rfl) rfl
theorem q1945 : (Jvm.Cond.selects "ThreeSizesModel" ({ cls := "ThreeSizesModel", name := "status", desc := "(I)I" } : Jvm.MethodName) ({ cls := "ThreeSizesModel", name := "status", desc := "(I)I" } : Jvm.MethodName)) ∈ lw_all := lw_g (lw_at lw_m8 200 rfl) rfl
theorem q1946 : (Jvm.Cond.code ({ cls := "ThreeSizesModel", name := "status", desc := "(I)I" } : Jvm.MethodName) prog_19_method_94_code (4 : Nat) (Option.some Jvm.ClassFile.FieldType.int)) ∈ lw_all := lw_g (lw_at lw_m8 201 rfl) rfl
theorem q1947 : (Jvm.Cond.constantLong "ThreeSizesModel" (376 : Nat) (12 : Int64)) ∈ lw_all := lw_g (lw_at lw_m8 202 rfl) rfl
theorem q1948 : (Jvm.Cond.constantLong "ThreeSizesModel" (378 : Nat) (16 : Int64)) ∈ lw_all := lw_g (lw_at lw_m8 203 rfl) rfl
theorem in_X4 : ∀ w ∈ wsX40, w ∈ lw_all := lw_in wsX40 [1459, 1461, 1463, 1465, 1467, 1469, 1471, 1473, 1475, 1477, 1479, 1481, 1483, 1485, 1487, 1489, 1491, 1493, 1495, 1497, 1499, 1501, 1503, 1505, 1507, 1509, 1511, 1513, 1515, 1517, 1519, 1521, 1523, 1525, 1527, 1529, 1531, 1533] (by decide +kernel) (by decide +kernel)
