/-! ThreeSizes$Day -/
set_option maxRecDepth 100000
def RX1 : String := "ThreeSizes$Day"
def TX1 : u_T := fun k => match k with
  | 0 => ("ThreeSizes$Day", "wall", "LThreeSizes$Wall;", false)
  | 1 => ("ThreeSizes$Day", "seed", "I", false)
  | 2 => ("ThreeSizes$Day", "hours", "I", false)
  | 3 => ("ThreeSizes$Day", "got", "I", false)
  | 4 => ("ThreeSizes$Day", "went", "I", false)
  | 5 => ("ThreeSizes$Day", "returned", "I", false)
  | 6 => ("ThreeSizes$Day", "fetched", "I", false)
  | _ => ("ThreeSizes$Day", "taken", "I", false)
def tyX1 : Nat → FieldType := fun k => match k with
  | 0 => .object "ThreeSizes$Wall"
  | 1 => .int
  | 2 => .int
  | 3 => .int
  | 4 => .int
  | 5 => .int
  | 6 => .int
  | _ => .int
abbrev wsX10 : List Cond := u_ws RX1 TX1 8
theorem nmX1 : ∀ a, a < 8 → ∀ b, b < 8 → a ≠ b → (TX1 a).2.1 ≠ (TX1 b).2.1 := by decide +kernel
theorem tyX1_ok : ∀ k, k < 8 → parseFieldDescriptor (TX1 k).2.2.1 = some (tyX1 k) := by decide +kernel
abbrev cX1_init : ByteArray := prog_2_method_1_code
def yX1_init : MethodName := ⟨RX1, "<init>", "()V"⟩
def dkwX1_init_0 : List UInt8 := [42, 183, 0, 3, 42, 187, 0, 9, 89, 183, 0, 11, 181, 0, 12, 42, 4, 181, 0, 18, 177]
abbrev dktX1_init_0 : List UInt8 := dkwX1_init_0 ++ []
theorem dksX1_init_0 : cX1_init.data.toList.drop 0 = dktX1_init_0 := by decide +kernel
theorem dX1_init_0 : decode cX1_init 0 = .ok (.aload_n 0, 1) := dk_42 (dk_at dksX1_init_0 0 rfl rfl)
theorem dX1_init_1 : decode cX1_init 1 = .ok (.invokespecial 3, 3) := dk_183 0 3 (dk_at dksX1_init_0 1 rfl rfl)
theorem dX1_init_4 : decode cX1_init 4 = .ok (.aload_n 0, 1) := dk_42 (dk_at dksX1_init_0 4 rfl rfl)
theorem dX1_init_5 : decode cX1_init 5 = .ok (.new 9, 3) := dk_187 0 9 (dk_at dksX1_init_0 5 rfl rfl)
theorem dX1_init_8 : decode cX1_init 8 = .ok (.dup, 1) := dk_89 (dk_at dksX1_init_0 8 rfl rfl)
theorem dX1_init_9 : decode cX1_init 9 = .ok (.invokespecial 11, 3) := dk_183 0 11 (dk_at dksX1_init_0 9 rfl rfl)
theorem dX1_init_12 : decode cX1_init 12 = .ok (.putfield 12, 3) := dk_181 0 12 (dk_at dksX1_init_0 12 rfl rfl)
theorem dX1_init_15 : decode cX1_init 15 = .ok (.aload_n 0, 1) := dk_42 (dk_at dksX1_init_0 15 rfl rfl)
theorem dX1_init_16 : decode cX1_init 16 = .ok (.iconst 1, 1) := dk_4 (dk_at dksX1_init_0 16 rfl rfl)
theorem dX1_init_17 : decode cX1_init 17 = .ok (.putfield 18, 3) := dk_181 0 18 (dk_at dksX1_init_0 17 rfl rfl)
theorem dX1_init_20 : decode cX1_init 20 = .ok (.return_, 1) := dk_177 (dk_at dksX1_init_0 20 rfl rfl)
abbrev cX1_lives : ByteArray := prog_2_method_5_code
def yX1_lives : MethodName := ⟨RX1, "lives", "(LThreeSizes$Rule;)I"⟩
def dkwX1_lives_5 : List UInt8 := [180, 0, 42, 29, 96, 181, 0, 42, 29, 172]
abbrev dktX1_lives_5 : List UInt8 := dkwX1_lives_5 ++ []
def dkwX1_lives_4 : List UInt8 := [43, 42, 180, 0, 12, 28, 42, 180, 0, 12, 182, 0, 66, 182, 0, 69, 182, 0, 75, 62, 42, 89]
abbrev dktX1_lives_4 : List UInt8 := dkwX1_lives_4 ++ dktX1_lives_5
def dkwX1_lives_3 : List UInt8 := [180, 0, 27, 4, 96, 181, 0, 27, 42, 182, 0, 63, 61, 28, 2, 160, 0, 7, 3, 167, 0, 24, 42, 28]
abbrev dktX1_lives_3 : List UInt8 := dkwX1_lives_3 ++ dktX1_lives_4
def dkwX1_lives_2 : List UInt8 := [46, 4, 100, 79, 42, 89, 180, 0, 39, 4, 96, 181, 0, 39, 132, 2, 1, 167, 255, 195, 42, 89]
abbrev dktX1_lives_2 : List UInt8 := dkwX1_lives_2 ++ dktX1_lives_3
def dkwX1_lives_1 : List UInt8 := [182, 0, 46, 42, 180, 0, 12, 180, 0, 60, 28, 46, 162, 0, 26, 42, 180, 0, 12, 180, 0, 57, 28, 92]
abbrev dktX1_lives_1 : List UInt8 := dkwX1_lives_1 ++ dktX1_lives_2
def dkwX1_lives_0 : List UInt8 := [3, 61, 28, 6, 162, 0, 62, 42, 180, 0, 12, 180, 0, 57, 28, 46, 158, 0, 44, 42, 16, 10]
abbrev dktX1_lives_0 : List UInt8 := dkwX1_lives_0 ++ dktX1_lives_1
theorem dksX1_lives_0 : cX1_lives.data.toList.drop 0 = dktX1_lives_0 := by decide +kernel
theorem dksX1_lives_1 : cX1_lives.data.toList.drop 22 = dktX1_lives_1 := dk_seg dksX1_lives_0 22 rfl rfl
theorem dksX1_lives_2 : cX1_lives.data.toList.drop 46 = dktX1_lives_2 := dk_seg dksX1_lives_1 24 rfl rfl
theorem dksX1_lives_3 : cX1_lives.data.toList.drop 68 = dktX1_lives_3 := dk_seg dksX1_lives_2 22 rfl rfl
theorem dksX1_lives_4 : cX1_lives.data.toList.drop 92 = dktX1_lives_4 := dk_seg dksX1_lives_3 24 rfl rfl
theorem dksX1_lives_5 : cX1_lives.data.toList.drop 114 = dktX1_lives_5 := dk_seg dksX1_lives_4 22 rfl rfl
theorem dX1_lives_0 : decode cX1_lives 0 = .ok (.iconst 0, 1) := dk_3 (dk_at dksX1_lives_0 0 rfl rfl)
theorem dX1_lives_1 : decode cX1_lives 1 = .ok (.istore_n 2, 1) := dk_61 (dk_at dksX1_lives_0 1 rfl rfl)
theorem dX1_lives_2 : decode cX1_lives 2 = .ok (.iload_n 2, 1) := dk_28 (dk_at dksX1_lives_0 2 rfl rfl)
theorem dX1_lives_3 : decode cX1_lives 3 = .ok (.iconst 3, 1) := dk_6 (dk_at dksX1_lives_0 3 rfl rfl)
theorem dX1_lives_4 : decode cX1_lives 4 = .ok (.if_icmp .ge 62, 3) := dk_162 0 62 (dk_at dksX1_lives_0 4 rfl rfl)
theorem dX1_lives_7 : decode cX1_lives 7 = .ok (.aload_n 0, 1) := dk_42 (dk_at dksX1_lives_0 7 rfl rfl)
theorem dX1_lives_8 : decode cX1_lives 8 = .ok (.getfield 12, 3) := dk_180 0 12 (dk_at dksX1_lives_0 8 rfl rfl)
theorem dX1_lives_11 : decode cX1_lives 11 = .ok (.getfield 57, 3) := dk_180 0 57 (dk_at dksX1_lives_0 11 rfl rfl)
theorem dX1_lives_14 : decode cX1_lives 14 = .ok (.iload_n 2, 1) := dk_28 (dk_at dksX1_lives_0 14 rfl rfl)
theorem dX1_lives_15 : decode cX1_lives 15 = .ok (.iaload, 1) := dk_46 (dk_at dksX1_lives_0 15 rfl rfl)
theorem dX1_lives_16 : decode cX1_lives 16 = .ok (.ifCond .le 44, 3) := dk_158 0 44 (dk_at dksX1_lives_0 16 rfl rfl)
theorem dX1_lives_19 : decode cX1_lives 19 = .ok (.aload_n 0, 1) := dk_42 (dk_at dksX1_lives_0 19 rfl rfl)
theorem dX1_lives_20 : decode cX1_lives 20 = .ok (.bipush 10, 2) := dk_16 10 (dk_at dksX1_lives_0 20 rfl rfl)
theorem dX1_lives_22 : decode cX1_lives 22 = .ok (.invokevirtual 46, 3) := dk_182 0 46 (dk_at dksX1_lives_1 0 rfl rfl)
theorem dX1_lives_25 : decode cX1_lives 25 = .ok (.aload_n 0, 1) := dk_42 (dk_at dksX1_lives_1 3 rfl rfl)
theorem dX1_lives_26 : decode cX1_lives 26 = .ok (.getfield 12, 3) := dk_180 0 12 (dk_at dksX1_lives_1 4 rfl rfl)
theorem dX1_lives_29 : decode cX1_lives 29 = .ok (.getfield 60, 3) := dk_180 0 60 (dk_at dksX1_lives_1 7 rfl rfl)
theorem dX1_lives_32 : decode cX1_lives 32 = .ok (.iload_n 2, 1) := dk_28 (dk_at dksX1_lives_1 10 rfl rfl)
theorem dX1_lives_33 : decode cX1_lives 33 = .ok (.iaload, 1) := dk_46 (dk_at dksX1_lives_1 11 rfl rfl)
theorem dX1_lives_34 : decode cX1_lives 34 = .ok (.if_icmp .ge 26, 3) := dk_162 0 26 (dk_at dksX1_lives_1 12 rfl rfl)
theorem dX1_lives_37 : decode cX1_lives 37 = .ok (.aload_n 0, 1) := dk_42 (dk_at dksX1_lives_1 15 rfl rfl)
theorem dX1_lives_38 : decode cX1_lives 38 = .ok (.getfield 12, 3) := dk_180 0 12 (dk_at dksX1_lives_1 16 rfl rfl)
theorem dX1_lives_41 : decode cX1_lives 41 = .ok (.getfield 57, 3) := dk_180 0 57 (dk_at dksX1_lives_1 19 rfl rfl)
theorem dX1_lives_44 : decode cX1_lives 44 = .ok (.iload_n 2, 1) := dk_28 (dk_at dksX1_lives_1 22 rfl rfl)
theorem dX1_lives_45 : decode cX1_lives 45 = .ok (.dup2, 1) := dk_92 (dk_at dksX1_lives_1 23 rfl rfl)
theorem dX1_lives_46 : decode cX1_lives 46 = .ok (.iaload, 1) := dk_46 (dk_at dksX1_lives_2 0 rfl rfl)
theorem dX1_lives_47 : decode cX1_lives 47 = .ok (.iconst 1, 1) := dk_4 (dk_at dksX1_lives_2 1 rfl rfl)
theorem dX1_lives_48 : decode cX1_lives 48 = .ok (.isub, 1) := dk_100 (dk_at dksX1_lives_2 2 rfl rfl)
theorem dX1_lives_49 : decode cX1_lives 49 = .ok (.iastore, 1) := dk_79 (dk_at dksX1_lives_2 3 rfl rfl)
theorem dX1_lives_50 : decode cX1_lives 50 = .ok (.aload_n 0, 1) := dk_42 (dk_at dksX1_lives_2 4 rfl rfl)
theorem dX1_lives_51 : decode cX1_lives 51 = .ok (.dup, 1) := dk_89 (dk_at dksX1_lives_2 5 rfl rfl)
theorem dX1_lives_52 : decode cX1_lives 52 = .ok (.getfield 39, 3) := dk_180 0 39 (dk_at dksX1_lives_2 6 rfl rfl)
theorem dX1_lives_55 : decode cX1_lives 55 = .ok (.iconst 1, 1) := dk_4 (dk_at dksX1_lives_2 9 rfl rfl)
theorem dX1_lives_56 : decode cX1_lives 56 = .ok (.iadd, 1) := dk_96 (dk_at dksX1_lives_2 10 rfl rfl)
theorem dX1_lives_57 : decode cX1_lives 57 = .ok (.putfield 39, 3) := dk_181 0 39 (dk_at dksX1_lives_2 11 rfl rfl)
theorem dX1_lives_60 : decode cX1_lives 60 = .ok (.iinc 2 1, 3) := dk_132 2 1 (dk_at dksX1_lives_2 14 rfl rfl)
theorem dX1_lives_63 : decode cX1_lives 63 = .ok (.goto (-61), 3) := dk_167 255 195 (dk_at dksX1_lives_2 17 rfl rfl)
theorem dX1_lives_66 : decode cX1_lives 66 = .ok (.aload_n 0, 1) := dk_42 (dk_at dksX1_lives_2 20 rfl rfl)
theorem dX1_lives_67 : decode cX1_lives 67 = .ok (.dup, 1) := dk_89 (dk_at dksX1_lives_2 21 rfl rfl)
theorem dX1_lives_68 : decode cX1_lives 68 = .ok (.getfield 27, 3) := dk_180 0 27 (dk_at dksX1_lives_3 0 rfl rfl)
theorem dX1_lives_71 : decode cX1_lives 71 = .ok (.iconst 1, 1) := dk_4 (dk_at dksX1_lives_3 3 rfl rfl)
theorem dX1_lives_72 : decode cX1_lives 72 = .ok (.iadd, 1) := dk_96 (dk_at dksX1_lives_3 4 rfl rfl)
theorem dX1_lives_73 : decode cX1_lives 73 = .ok (.putfield 27, 3) := dk_181 0 27 (dk_at dksX1_lives_3 5 rfl rfl)
theorem dX1_lives_76 : decode cX1_lives 76 = .ok (.aload_n 0, 1) := dk_42 (dk_at dksX1_lives_3 8 rfl rfl)
theorem dX1_lives_77 : decode cX1_lives 77 = .ok (.invokevirtual 63, 3) := dk_182 0 63 (dk_at dksX1_lives_3 9 rfl rfl)
theorem dX1_lives_80 : decode cX1_lives 80 = .ok (.istore_n 2, 1) := dk_61 (dk_at dksX1_lives_3 12 rfl rfl)
theorem dX1_lives_81 : decode cX1_lives 81 = .ok (.iload_n 2, 1) := dk_28 (dk_at dksX1_lives_3 13 rfl rfl)
theorem dX1_lives_82 : decode cX1_lives 82 = .ok (.iconst (-1), 1) := dk_2 (dk_at dksX1_lives_3 14 rfl rfl)
theorem dX1_lives_83 : decode cX1_lives 83 = .ok (.if_icmp .ne 7, 3) := dk_160 0 7 (dk_at dksX1_lives_3 15 rfl rfl)
theorem dX1_lives_86 : decode cX1_lives 86 = .ok (.iconst 0, 1) := dk_3 (dk_at dksX1_lives_3 18 rfl rfl)
theorem dX1_lives_87 : decode cX1_lives 87 = .ok (.goto 24, 3) := dk_167 0 24 (dk_at dksX1_lives_3 19 rfl rfl)
theorem dX1_lives_90 : decode cX1_lives 90 = .ok (.aload_n 0, 1) := dk_42 (dk_at dksX1_lives_3 22 rfl rfl)
theorem dX1_lives_91 : decode cX1_lives 91 = .ok (.iload_n 2, 1) := dk_28 (dk_at dksX1_lives_3 23 rfl rfl)
theorem dX1_lives_92 : decode cX1_lives 92 = .ok (.aload_n 1, 1) := dk_43 (dk_at dksX1_lives_4 0 rfl rfl)
theorem dX1_lives_93 : decode cX1_lives 93 = .ok (.aload_n 0, 1) := dk_42 (dk_at dksX1_lives_4 1 rfl rfl)
theorem dX1_lives_94 : decode cX1_lives 94 = .ok (.getfield 12, 3) := dk_180 0 12 (dk_at dksX1_lives_4 2 rfl rfl)
theorem dX1_lives_97 : decode cX1_lives 97 = .ok (.iload_n 2, 1) := dk_28 (dk_at dksX1_lives_4 5 rfl rfl)
theorem dX1_lives_98 : decode cX1_lives 98 = .ok (.aload_n 0, 1) := dk_42 (dk_at dksX1_lives_4 6 rfl rfl)
theorem dX1_lives_99 : decode cX1_lives 99 = .ok (.getfield 12, 3) := dk_180 0 12 (dk_at dksX1_lives_4 7 rfl rfl)
theorem dX1_lives_102 : decode cX1_lives 102 = .ok (.invokevirtual 66, 3) := dk_182 0 66 (dk_at dksX1_lives_4 10 rfl rfl)
theorem dX1_lives_105 : decode cX1_lives 105 = .ok (.invokevirtual 69, 3) := dk_182 0 69 (dk_at dksX1_lives_4 13 rfl rfl)
theorem dX1_lives_108 : decode cX1_lives 108 = .ok (.invokevirtual 75, 3) := dk_182 0 75 (dk_at dksX1_lives_4 16 rfl rfl)
theorem dX1_lives_111 : decode cX1_lives 111 = .ok (.istore_n 3, 1) := dk_62 (dk_at dksX1_lives_4 19 rfl rfl)
theorem dX1_lives_112 : decode cX1_lives 112 = .ok (.aload_n 0, 1) := dk_42 (dk_at dksX1_lives_4 20 rfl rfl)
theorem dX1_lives_113 : decode cX1_lives 113 = .ok (.dup, 1) := dk_89 (dk_at dksX1_lives_4 21 rfl rfl)
theorem dX1_lives_114 : decode cX1_lives 114 = .ok (.getfield 42, 3) := dk_180 0 42 (dk_at dksX1_lives_5 0 rfl rfl)
theorem dX1_lives_117 : decode cX1_lives 117 = .ok (.iload_n 3, 1) := dk_29 (dk_at dksX1_lives_5 3 rfl rfl)
theorem dX1_lives_118 : decode cX1_lives 118 = .ok (.iadd, 1) := dk_96 (dk_at dksX1_lives_5 4 rfl rfl)
theorem dX1_lives_119 : decode cX1_lives 119 = .ok (.putfield 42, 3) := dk_181 0 42 (dk_at dksX1_lives_5 5 rfl rfl)
theorem dX1_lives_122 : decode cX1_lives 122 = .ok (.iload_n 3, 1) := dk_29 (dk_at dksX1_lives_5 8 rfl rfl)
theorem dX1_lives_123 : decode cX1_lives 123 = .ok (.ireturn, 1) := dk_172 (dk_at dksX1_lives_5 9 rfl rfl)
abbrev cX1_draw : ByteArray := prog_2_method_3_code
def yX1_draw : MethodName := ⟨RX1, "draw", "(I)I"⟩
def dkwX1_draw_1 : List UInt8 := [172]
abbrev dktX1_draw_1 : List UInt8 := dkwX1_draw_1 ++ []
def dkwX1_draw_0 : List UInt8 := [42, 42, 180, 0, 18, 18, 45, 104, 17, 48, 57, 96, 181, 0, 18, 42, 180, 0, 18, 16, 16, 124, 27, 112]
abbrev dktX1_draw_0 : List UInt8 := dkwX1_draw_0 ++ dktX1_draw_1
theorem dksX1_draw_0 : cX1_draw.data.toList.drop 0 = dktX1_draw_0 := by decide +kernel
theorem dksX1_draw_1 : cX1_draw.data.toList.drop 24 = dktX1_draw_1 := dk_seg dksX1_draw_0 24 rfl rfl
theorem dX1_draw_0 : decode cX1_draw 0 = .ok (.aload_n 0, 1) := dk_42 (dk_at dksX1_draw_0 0 rfl rfl)
theorem dX1_draw_1 : decode cX1_draw 1 = .ok (.aload_n 0, 1) := dk_42 (dk_at dksX1_draw_0 1 rfl rfl)
theorem dX1_draw_2 : decode cX1_draw 2 = .ok (.getfield 18, 3) := dk_180 0 18 (dk_at dksX1_draw_0 2 rfl rfl)
theorem dX1_draw_5 : decode cX1_draw 5 = .ok (.ldc 45, 2) := dk_18 45 (dk_at dksX1_draw_0 5 rfl rfl)
theorem dX1_draw_7 : decode cX1_draw 7 = .ok (.imul, 1) := dk_104 (dk_at dksX1_draw_0 7 rfl rfl)
theorem dX1_draw_8 : decode cX1_draw 8 = .ok (.sipush 12345, 3) := dk_17 48 57 (dk_at dksX1_draw_0 8 rfl rfl)
theorem dX1_draw_11 : decode cX1_draw 11 = .ok (.iadd, 1) := dk_96 (dk_at dksX1_draw_0 11 rfl rfl)
theorem dX1_draw_12 : decode cX1_draw 12 = .ok (.putfield 18, 3) := dk_181 0 18 (dk_at dksX1_draw_0 12 rfl rfl)
theorem dX1_draw_15 : decode cX1_draw 15 = .ok (.aload_n 0, 1) := dk_42 (dk_at dksX1_draw_0 15 rfl rfl)
theorem dX1_draw_16 : decode cX1_draw 16 = .ok (.getfield 18, 3) := dk_180 0 18 (dk_at dksX1_draw_0 16 rfl rfl)
theorem dX1_draw_19 : decode cX1_draw 19 = .ok (.bipush 16, 2) := dk_16 16 (dk_at dksX1_draw_0 19 rfl rfl)
theorem dX1_draw_21 : decode cX1_draw 21 = .ok (.iushr, 1) := dk_124 (dk_at dksX1_draw_0 21 rfl rfl)
theorem dX1_draw_22 : decode cX1_draw 22 = .ok (.iload_n 1, 1) := dk_27 (dk_at dksX1_draw_0 22 rfl rfl)
theorem dX1_draw_23 : decode cX1_draw 23 = .ok (.irem, 1) := dk_112 (dk_at dksX1_draw_0 23 rfl rfl)
theorem dX1_draw_24 : decode cX1_draw 24 = .ok (.ireturn, 1) := dk_172 (dk_at dksX1_draw_1 0 rfl rfl)
abbrev cX1_comes : ByteArray := prog_2_method_4_code
def yX1_comes : MethodName := ⟨RX1, "comes", "()I"⟩
def dkwX1_comes_1 : List UInt8 := [180, 0, 12, 180, 0, 53, 28, 46, 100, 60, 27, 156, 0, 5, 28, 172, 132, 2, 1, 167, 255, 224, 2, 172]
abbrev dktX1_comes_1 : List UInt8 := dkwX1_comes_1 ++ []
def dkwX1_comes_0 : List UInt8 := [42, 16, 100, 182, 0, 46, 60, 3, 61, 28, 42, 180, 0, 12, 180, 0, 50, 162, 0, 27, 27, 42]
abbrev dktX1_comes_0 : List UInt8 := dkwX1_comes_0 ++ dktX1_comes_1
theorem dksX1_comes_0 : cX1_comes.data.toList.drop 0 = dktX1_comes_0 := by decide +kernel
theorem dksX1_comes_1 : cX1_comes.data.toList.drop 22 = dktX1_comes_1 := dk_seg dksX1_comes_0 22 rfl rfl
theorem dX1_comes_0 : decode cX1_comes 0 = .ok (.aload_n 0, 1) := dk_42 (dk_at dksX1_comes_0 0 rfl rfl)
theorem dX1_comes_1 : decode cX1_comes 1 = .ok (.bipush 100, 2) := dk_16 100 (dk_at dksX1_comes_0 1 rfl rfl)
theorem dX1_comes_3 : decode cX1_comes 3 = .ok (.invokevirtual 46, 3) := dk_182 0 46 (dk_at dksX1_comes_0 3 rfl rfl)
theorem dX1_comes_6 : decode cX1_comes 6 = .ok (.istore_n 1, 1) := dk_60 (dk_at dksX1_comes_0 6 rfl rfl)
theorem dX1_comes_7 : decode cX1_comes 7 = .ok (.iconst 0, 1) := dk_3 (dk_at dksX1_comes_0 7 rfl rfl)
theorem dX1_comes_8 : decode cX1_comes 8 = .ok (.istore_n 2, 1) := dk_61 (dk_at dksX1_comes_0 8 rfl rfl)
theorem dX1_comes_9 : decode cX1_comes 9 = .ok (.iload_n 2, 1) := dk_28 (dk_at dksX1_comes_0 9 rfl rfl)
theorem dX1_comes_10 : decode cX1_comes 10 = .ok (.aload_n 0, 1) := dk_42 (dk_at dksX1_comes_0 10 rfl rfl)
theorem dX1_comes_11 : decode cX1_comes 11 = .ok (.getfield 12, 3) := dk_180 0 12 (dk_at dksX1_comes_0 11 rfl rfl)
theorem dX1_comes_14 : decode cX1_comes 14 = .ok (.getfield 50, 3) := dk_180 0 50 (dk_at dksX1_comes_0 14 rfl rfl)
theorem dX1_comes_17 : decode cX1_comes 17 = .ok (.if_icmp .ge 27, 3) := dk_162 0 27 (dk_at dksX1_comes_0 17 rfl rfl)
theorem dX1_comes_20 : decode cX1_comes 20 = .ok (.iload_n 1, 1) := dk_27 (dk_at dksX1_comes_0 20 rfl rfl)
theorem dX1_comes_21 : decode cX1_comes 21 = .ok (.aload_n 0, 1) := dk_42 (dk_at dksX1_comes_0 21 rfl rfl)
theorem dX1_comes_22 : decode cX1_comes 22 = .ok (.getfield 12, 3) := dk_180 0 12 (dk_at dksX1_comes_1 0 rfl rfl)
theorem dX1_comes_25 : decode cX1_comes 25 = .ok (.getfield 53, 3) := dk_180 0 53 (dk_at dksX1_comes_1 3 rfl rfl)
theorem dX1_comes_28 : decode cX1_comes 28 = .ok (.iload_n 2, 1) := dk_28 (dk_at dksX1_comes_1 6 rfl rfl)
theorem dX1_comes_29 : decode cX1_comes 29 = .ok (.iaload, 1) := dk_46 (dk_at dksX1_comes_1 7 rfl rfl)
theorem dX1_comes_30 : decode cX1_comes 30 = .ok (.isub, 1) := dk_100 (dk_at dksX1_comes_1 8 rfl rfl)
theorem dX1_comes_31 : decode cX1_comes 31 = .ok (.istore_n 1, 1) := dk_60 (dk_at dksX1_comes_1 9 rfl rfl)
theorem dX1_comes_32 : decode cX1_comes 32 = .ok (.iload_n 1, 1) := dk_27 (dk_at dksX1_comes_1 10 rfl rfl)
theorem dX1_comes_33 : decode cX1_comes 33 = .ok (.ifCond .ge 5, 3) := dk_156 0 5 (dk_at dksX1_comes_1 11 rfl rfl)
theorem dX1_comes_36 : decode cX1_comes 36 = .ok (.iload_n 2, 1) := dk_28 (dk_at dksX1_comes_1 14 rfl rfl)
theorem dX1_comes_37 : decode cX1_comes 37 = .ok (.ireturn, 1) := dk_172 (dk_at dksX1_comes_1 15 rfl rfl)
theorem dX1_comes_38 : decode cX1_comes 38 = .ok (.iinc 2 1, 3) := dk_132 2 1 (dk_at dksX1_comes_1 16 rfl rfl)
theorem dX1_comes_41 : decode cX1_comes 41 = .ok (.goto (-32), 3) := dk_167 255 224 (dk_at dksX1_comes_1 19 rfl rfl)
theorem dX1_comes_44 : decode cX1_comes 44 = .ok (.iconst (-1), 1) := dk_2 (dk_at dksX1_comes_1 22 rfl rfl)
theorem dX1_comes_45 : decode cX1_comes 45 = .ok (.ireturn, 1) := dk_172 (dk_at dksX1_comes_1 23 rfl rfl)
abbrev cX1_brings : ByteArray := prog_2_method_6_code
def yX1_brings : MethodName := ⟨RX1, "brings", "(II)I"⟩
def dkwX1_brings_4 : List UInt8 := [180, 0, 88, 27, 46, 116, 172]
abbrev dktX1_brings_4 : List UInt8 := dkwX1_brings_4 ++ []
def dkwX1_brings_3 : List UInt8 := [46, 42, 180, 0, 12, 180, 0, 85, 100, 172, 42, 89, 180, 0, 36, 4, 96, 181, 0, 36, 42, 180, 0, 12]
abbrev dktX1_brings_3 : List UInt8 := dkwX1_brings_3 ++ dktX1_brings_4
def dkwX1_brings_2 : List UInt8 := [180, 0, 82, 162, 0, 31, 42, 89, 180, 0, 33, 4, 96, 181, 0, 33, 42, 180, 0, 12, 180, 0, 79, 27]
abbrev dktX1_brings_2 : List UInt8 := dkwX1_brings_2 ++ dktX1_brings_3
def dkwX1_brings_1 : List UInt8 := [96, 181, 0, 30, 42, 180, 0, 12, 180, 0, 79, 27, 46, 172, 42, 16, 10, 182, 0, 46, 42, 180, 0, 12]
abbrev dktX1_brings_1 : List UInt8 := dkwX1_brings_1 ++ dktX1_brings_2
def dkwX1_brings_0 : List UInt8 := [28, 2, 159, 0, 36, 42, 180, 0, 12, 180, 0, 57, 28, 92, 46, 4, 96, 79, 42, 89, 180, 0, 30, 4]
abbrev dktX1_brings_0 : List UInt8 := dkwX1_brings_0 ++ dktX1_brings_1
theorem dksX1_brings_0 : cX1_brings.data.toList.drop 0 = dktX1_brings_0 := by decide +kernel
theorem dksX1_brings_1 : cX1_brings.data.toList.drop 24 = dktX1_brings_1 := dk_seg dksX1_brings_0 24 rfl rfl
theorem dksX1_brings_2 : cX1_brings.data.toList.drop 48 = dktX1_brings_2 := dk_seg dksX1_brings_1 24 rfl rfl
theorem dksX1_brings_3 : cX1_brings.data.toList.drop 72 = dktX1_brings_3 := dk_seg dksX1_brings_2 24 rfl rfl
theorem dksX1_brings_4 : cX1_brings.data.toList.drop 96 = dktX1_brings_4 := dk_seg dksX1_brings_3 24 rfl rfl
theorem dX1_brings_0 : decode cX1_brings 0 = .ok (.iload_n 2, 1) := dk_28 (dk_at dksX1_brings_0 0 rfl rfl)
theorem dX1_brings_1 : decode cX1_brings 1 = .ok (.iconst (-1), 1) := dk_2 (dk_at dksX1_brings_0 1 rfl rfl)
theorem dX1_brings_2 : decode cX1_brings 2 = .ok (.if_icmp .eq 36, 3) := dk_159 0 36 (dk_at dksX1_brings_0 2 rfl rfl)
theorem dX1_brings_5 : decode cX1_brings 5 = .ok (.aload_n 0, 1) := dk_42 (dk_at dksX1_brings_0 5 rfl rfl)
theorem dX1_brings_6 : decode cX1_brings 6 = .ok (.getfield 12, 3) := dk_180 0 12 (dk_at dksX1_brings_0 6 rfl rfl)
theorem dX1_brings_9 : decode cX1_brings 9 = .ok (.getfield 57, 3) := dk_180 0 57 (dk_at dksX1_brings_0 9 rfl rfl)
theorem dX1_brings_12 : decode cX1_brings 12 = .ok (.iload_n 2, 1) := dk_28 (dk_at dksX1_brings_0 12 rfl rfl)
theorem dX1_brings_13 : decode cX1_brings 13 = .ok (.dup2, 1) := dk_92 (dk_at dksX1_brings_0 13 rfl rfl)
theorem dX1_brings_14 : decode cX1_brings 14 = .ok (.iaload, 1) := dk_46 (dk_at dksX1_brings_0 14 rfl rfl)
theorem dX1_brings_15 : decode cX1_brings 15 = .ok (.iconst 1, 1) := dk_4 (dk_at dksX1_brings_0 15 rfl rfl)
theorem dX1_brings_16 : decode cX1_brings 16 = .ok (.iadd, 1) := dk_96 (dk_at dksX1_brings_0 16 rfl rfl)
theorem dX1_brings_17 : decode cX1_brings 17 = .ok (.iastore, 1) := dk_79 (dk_at dksX1_brings_0 17 rfl rfl)
theorem dX1_brings_18 : decode cX1_brings 18 = .ok (.aload_n 0, 1) := dk_42 (dk_at dksX1_brings_0 18 rfl rfl)
theorem dX1_brings_19 : decode cX1_brings 19 = .ok (.dup, 1) := dk_89 (dk_at dksX1_brings_0 19 rfl rfl)
theorem dX1_brings_20 : decode cX1_brings 20 = .ok (.getfield 30, 3) := dk_180 0 30 (dk_at dksX1_brings_0 20 rfl rfl)
theorem dX1_brings_23 : decode cX1_brings 23 = .ok (.iconst 1, 1) := dk_4 (dk_at dksX1_brings_0 23 rfl rfl)
theorem dX1_brings_24 : decode cX1_brings 24 = .ok (.iadd, 1) := dk_96 (dk_at dksX1_brings_1 0 rfl rfl)
theorem dX1_brings_25 : decode cX1_brings 25 = .ok (.putfield 30, 3) := dk_181 0 30 (dk_at dksX1_brings_1 1 rfl rfl)
theorem dX1_brings_28 : decode cX1_brings 28 = .ok (.aload_n 0, 1) := dk_42 (dk_at dksX1_brings_1 4 rfl rfl)
theorem dX1_brings_29 : decode cX1_brings 29 = .ok (.getfield 12, 3) := dk_180 0 12 (dk_at dksX1_brings_1 5 rfl rfl)
theorem dX1_brings_32 : decode cX1_brings 32 = .ok (.getfield 79, 3) := dk_180 0 79 (dk_at dksX1_brings_1 8 rfl rfl)
theorem dX1_brings_35 : decode cX1_brings 35 = .ok (.iload_n 1, 1) := dk_27 (dk_at dksX1_brings_1 11 rfl rfl)
theorem dX1_brings_36 : decode cX1_brings 36 = .ok (.iaload, 1) := dk_46 (dk_at dksX1_brings_1 12 rfl rfl)
theorem dX1_brings_37 : decode cX1_brings 37 = .ok (.ireturn, 1) := dk_172 (dk_at dksX1_brings_1 13 rfl rfl)
theorem dX1_brings_38 : decode cX1_brings 38 = .ok (.aload_n 0, 1) := dk_42 (dk_at dksX1_brings_1 14 rfl rfl)
theorem dX1_brings_39 : decode cX1_brings 39 = .ok (.bipush 10, 2) := dk_16 10 (dk_at dksX1_brings_1 15 rfl rfl)
theorem dX1_brings_41 : decode cX1_brings 41 = .ok (.invokevirtual 46, 3) := dk_182 0 46 (dk_at dksX1_brings_1 17 rfl rfl)
theorem dX1_brings_44 : decode cX1_brings 44 = .ok (.aload_n 0, 1) := dk_42 (dk_at dksX1_brings_1 20 rfl rfl)
theorem dX1_brings_45 : decode cX1_brings 45 = .ok (.getfield 12, 3) := dk_180 0 12 (dk_at dksX1_brings_1 21 rfl rfl)
theorem dX1_brings_48 : decode cX1_brings 48 = .ok (.getfield 82, 3) := dk_180 0 82 (dk_at dksX1_brings_2 0 rfl rfl)
theorem dX1_brings_51 : decode cX1_brings 51 = .ok (.if_icmp .ge 31, 3) := dk_162 0 31 (dk_at dksX1_brings_2 3 rfl rfl)
theorem dX1_brings_54 : decode cX1_brings 54 = .ok (.aload_n 0, 1) := dk_42 (dk_at dksX1_brings_2 6 rfl rfl)
theorem dX1_brings_55 : decode cX1_brings 55 = .ok (.dup, 1) := dk_89 (dk_at dksX1_brings_2 7 rfl rfl)
theorem dX1_brings_56 : decode cX1_brings 56 = .ok (.getfield 33, 3) := dk_180 0 33 (dk_at dksX1_brings_2 8 rfl rfl)
theorem dX1_brings_59 : decode cX1_brings 59 = .ok (.iconst 1, 1) := dk_4 (dk_at dksX1_brings_2 11 rfl rfl)
theorem dX1_brings_60 : decode cX1_brings 60 = .ok (.iadd, 1) := dk_96 (dk_at dksX1_brings_2 12 rfl rfl)
theorem dX1_brings_61 : decode cX1_brings 61 = .ok (.putfield 33, 3) := dk_181 0 33 (dk_at dksX1_brings_2 13 rfl rfl)
theorem dX1_brings_64 : decode cX1_brings 64 = .ok (.aload_n 0, 1) := dk_42 (dk_at dksX1_brings_2 16 rfl rfl)
theorem dX1_brings_65 : decode cX1_brings 65 = .ok (.getfield 12, 3) := dk_180 0 12 (dk_at dksX1_brings_2 17 rfl rfl)
theorem dX1_brings_68 : decode cX1_brings 68 = .ok (.getfield 79, 3) := dk_180 0 79 (dk_at dksX1_brings_2 20 rfl rfl)
theorem dX1_brings_71 : decode cX1_brings 71 = .ok (.iload_n 1, 1) := dk_27 (dk_at dksX1_brings_2 23 rfl rfl)
theorem dX1_brings_72 : decode cX1_brings 72 = .ok (.iaload, 1) := dk_46 (dk_at dksX1_brings_3 0 rfl rfl)
theorem dX1_brings_73 : decode cX1_brings 73 = .ok (.aload_n 0, 1) := dk_42 (dk_at dksX1_brings_3 1 rfl rfl)
theorem dX1_brings_74 : decode cX1_brings 74 = .ok (.getfield 12, 3) := dk_180 0 12 (dk_at dksX1_brings_3 2 rfl rfl)
theorem dX1_brings_77 : decode cX1_brings 77 = .ok (.getfield 85, 3) := dk_180 0 85 (dk_at dksX1_brings_3 5 rfl rfl)
theorem dX1_brings_80 : decode cX1_brings 80 = .ok (.isub, 1) := dk_100 (dk_at dksX1_brings_3 8 rfl rfl)
theorem dX1_brings_81 : decode cX1_brings 81 = .ok (.ireturn, 1) := dk_172 (dk_at dksX1_brings_3 9 rfl rfl)
theorem dX1_brings_82 : decode cX1_brings 82 = .ok (.aload_n 0, 1) := dk_42 (dk_at dksX1_brings_3 10 rfl rfl)
theorem dX1_brings_83 : decode cX1_brings 83 = .ok (.dup, 1) := dk_89 (dk_at dksX1_brings_3 11 rfl rfl)
theorem dX1_brings_84 : decode cX1_brings 84 = .ok (.getfield 36, 3) := dk_180 0 36 (dk_at dksX1_brings_3 12 rfl rfl)
theorem dX1_brings_87 : decode cX1_brings 87 = .ok (.iconst 1, 1) := dk_4 (dk_at dksX1_brings_3 15 rfl rfl)
theorem dX1_brings_88 : decode cX1_brings 88 = .ok (.iadd, 1) := dk_96 (dk_at dksX1_brings_3 16 rfl rfl)
theorem dX1_brings_89 : decode cX1_brings 89 = .ok (.putfield 36, 3) := dk_181 0 36 (dk_at dksX1_brings_3 17 rfl rfl)
theorem dX1_brings_92 : decode cX1_brings 92 = .ok (.aload_n 0, 1) := dk_42 (dk_at dksX1_brings_3 20 rfl rfl)
theorem dX1_brings_93 : decode cX1_brings 93 = .ok (.getfield 12, 3) := dk_180 0 12 (dk_at dksX1_brings_3 21 rfl rfl)
theorem dX1_brings_96 : decode cX1_brings 96 = .ok (.getfield 88, 3) := dk_180 0 88 (dk_at dksX1_brings_4 0 rfl rfl)
theorem dX1_brings_99 : decode cX1_brings 99 = .ok (.iload_n 1, 1) := dk_27 (dk_at dksX1_brings_4 3 rfl rfl)
theorem dX1_brings_100 : decode cX1_brings 100 = .ok (.iaload, 1) := dk_46 (dk_at dksX1_brings_4 4 rfl rfl)
theorem dX1_brings_101 : decode cX1_brings 101 = .ok (.ineg, 1) := dk_116 (dk_at dksX1_brings_4 5 rfl rfl)
theorem dX1_brings_102 : decode cX1_brings 102 = .ok (.ireturn, 1) := dk_172 (dk_at dksX1_brings_4 6 rfl rfl)
abbrev cX1_copied : ByteArray := prog_2_method_2_code
def yX1_copied : MethodName := ⟨RX1, "copied", "()LThreeSizes$Day;"⟩
def dkwX1_copied_3 : List UInt8 := [181, 0, 42, 43, 176]
abbrev dktX1_copied_3 : List UInt8 := dkwX1_copied_3 ++ []
def dkwX1_copied_2 : List UInt8 := [181, 0, 33, 43, 42, 180, 0, 36, 181, 0, 36, 43, 42, 180, 0, 39, 181, 0, 39, 43, 42, 180, 0, 42]
abbrev dktX1_copied_2 : List UInt8 := dkwX1_copied_2 ++ dktX1_copied_3
def dkwX1_copied_1 : List UInt8 := [181, 0, 18, 43, 42, 180, 0, 27, 181, 0, 27, 43, 42, 180, 0, 30, 181, 0, 30, 43, 42, 180, 0, 33]
abbrev dktX1_copied_1 : List UInt8 := dkwX1_copied_1 ++ dktX1_copied_2
def dkwX1_copied_0 : List UInt8 := [187, 0, 13, 89, 183, 0, 22, 76, 43, 42, 180, 0, 12, 182, 0, 23, 181, 0, 12, 43, 42, 180, 0, 18]
abbrev dktX1_copied_0 : List UInt8 := dkwX1_copied_0 ++ dktX1_copied_1
theorem dksX1_copied_0 : cX1_copied.data.toList.drop 0 = dktX1_copied_0 := by decide +kernel
theorem dksX1_copied_1 : cX1_copied.data.toList.drop 24 = dktX1_copied_1 := dk_seg dksX1_copied_0 24 rfl rfl
theorem dksX1_copied_2 : cX1_copied.data.toList.drop 48 = dktX1_copied_2 := dk_seg dksX1_copied_1 24 rfl rfl
theorem dksX1_copied_3 : cX1_copied.data.toList.drop 72 = dktX1_copied_3 := dk_seg dksX1_copied_2 24 rfl rfl
theorem dX1_copied_0 : decode cX1_copied 0 = .ok (.new 13, 3) := dk_187 0 13 (dk_at dksX1_copied_0 0 rfl rfl)
theorem dX1_copied_3 : decode cX1_copied 3 = .ok (.dup, 1) := dk_89 (dk_at dksX1_copied_0 3 rfl rfl)
theorem dX1_copied_4 : decode cX1_copied 4 = .ok (.invokespecial 22, 3) := dk_183 0 22 (dk_at dksX1_copied_0 4 rfl rfl)
theorem dX1_copied_7 : decode cX1_copied 7 = .ok (.astore_n 1, 1) := dk_76 (dk_at dksX1_copied_0 7 rfl rfl)
theorem dX1_copied_8 : decode cX1_copied 8 = .ok (.aload_n 1, 1) := dk_43 (dk_at dksX1_copied_0 8 rfl rfl)
theorem dX1_copied_9 : decode cX1_copied 9 = .ok (.aload_n 0, 1) := dk_42 (dk_at dksX1_copied_0 9 rfl rfl)
theorem dX1_copied_10 : decode cX1_copied 10 = .ok (.getfield 12, 3) := dk_180 0 12 (dk_at dksX1_copied_0 10 rfl rfl)
theorem dX1_copied_13 : decode cX1_copied 13 = .ok (.invokevirtual 23, 3) := dk_182 0 23 (dk_at dksX1_copied_0 13 rfl rfl)
theorem dX1_copied_16 : decode cX1_copied 16 = .ok (.putfield 12, 3) := dk_181 0 12 (dk_at dksX1_copied_0 16 rfl rfl)
theorem dX1_copied_19 : decode cX1_copied 19 = .ok (.aload_n 1, 1) := dk_43 (dk_at dksX1_copied_0 19 rfl rfl)
theorem dX1_copied_20 : decode cX1_copied 20 = .ok (.aload_n 0, 1) := dk_42 (dk_at dksX1_copied_0 20 rfl rfl)
theorem dX1_copied_21 : decode cX1_copied 21 = .ok (.getfield 18, 3) := dk_180 0 18 (dk_at dksX1_copied_0 21 rfl rfl)
theorem dX1_copied_24 : decode cX1_copied 24 = .ok (.putfield 18, 3) := dk_181 0 18 (dk_at dksX1_copied_1 0 rfl rfl)
theorem dX1_copied_27 : decode cX1_copied 27 = .ok (.aload_n 1, 1) := dk_43 (dk_at dksX1_copied_1 3 rfl rfl)
theorem dX1_copied_28 : decode cX1_copied 28 = .ok (.aload_n 0, 1) := dk_42 (dk_at dksX1_copied_1 4 rfl rfl)
theorem dX1_copied_29 : decode cX1_copied 29 = .ok (.getfield 27, 3) := dk_180 0 27 (dk_at dksX1_copied_1 5 rfl rfl)
theorem dX1_copied_32 : decode cX1_copied 32 = .ok (.putfield 27, 3) := dk_181 0 27 (dk_at dksX1_copied_1 8 rfl rfl)
theorem dX1_copied_35 : decode cX1_copied 35 = .ok (.aload_n 1, 1) := dk_43 (dk_at dksX1_copied_1 11 rfl rfl)
theorem dX1_copied_36 : decode cX1_copied 36 = .ok (.aload_n 0, 1) := dk_42 (dk_at dksX1_copied_1 12 rfl rfl)
theorem dX1_copied_37 : decode cX1_copied 37 = .ok (.getfield 30, 3) := dk_180 0 30 (dk_at dksX1_copied_1 13 rfl rfl)
theorem dX1_copied_40 : decode cX1_copied 40 = .ok (.putfield 30, 3) := dk_181 0 30 (dk_at dksX1_copied_1 16 rfl rfl)
theorem dX1_copied_43 : decode cX1_copied 43 = .ok (.aload_n 1, 1) := dk_43 (dk_at dksX1_copied_1 19 rfl rfl)
theorem dX1_copied_44 : decode cX1_copied 44 = .ok (.aload_n 0, 1) := dk_42 (dk_at dksX1_copied_1 20 rfl rfl)
theorem dX1_copied_45 : decode cX1_copied 45 = .ok (.getfield 33, 3) := dk_180 0 33 (dk_at dksX1_copied_1 21 rfl rfl)
theorem dX1_copied_48 : decode cX1_copied 48 = .ok (.putfield 33, 3) := dk_181 0 33 (dk_at dksX1_copied_2 0 rfl rfl)
theorem dX1_copied_51 : decode cX1_copied 51 = .ok (.aload_n 1, 1) := dk_43 (dk_at dksX1_copied_2 3 rfl rfl)
theorem dX1_copied_52 : decode cX1_copied 52 = .ok (.aload_n 0, 1) := dk_42 (dk_at dksX1_copied_2 4 rfl rfl)
theorem dX1_copied_53 : decode cX1_copied 53 = .ok (.getfield 36, 3) := dk_180 0 36 (dk_at dksX1_copied_2 5 rfl rfl)
theorem dX1_copied_56 : decode cX1_copied 56 = .ok (.putfield 36, 3) := dk_181 0 36 (dk_at dksX1_copied_2 8 rfl rfl)
theorem dX1_copied_59 : decode cX1_copied 59 = .ok (.aload_n 1, 1) := dk_43 (dk_at dksX1_copied_2 11 rfl rfl)
theorem dX1_copied_60 : decode cX1_copied 60 = .ok (.aload_n 0, 1) := dk_42 (dk_at dksX1_copied_2 12 rfl rfl)
theorem dX1_copied_61 : decode cX1_copied 61 = .ok (.getfield 39, 3) := dk_180 0 39 (dk_at dksX1_copied_2 13 rfl rfl)
theorem dX1_copied_64 : decode cX1_copied 64 = .ok (.putfield 39, 3) := dk_181 0 39 (dk_at dksX1_copied_2 16 rfl rfl)
theorem dX1_copied_67 : decode cX1_copied 67 = .ok (.aload_n 1, 1) := dk_43 (dk_at dksX1_copied_2 19 rfl rfl)
theorem dX1_copied_68 : decode cX1_copied 68 = .ok (.aload_n 0, 1) := dk_42 (dk_at dksX1_copied_2 20 rfl rfl)
theorem dX1_copied_69 : decode cX1_copied 69 = .ok (.getfield 42, 3) := dk_180 0 42 (dk_at dksX1_copied_2 21 rfl rfl)
theorem dX1_copied_72 : decode cX1_copied 72 = .ok (.putfield 42, 3) := dk_181 0 42 (dk_at dksX1_copied_3 0 rfl rfl)
theorem dX1_copied_75 : decode cX1_copied 75 = .ok (.aload_n 1, 1) := dk_43 (dk_at dksX1_copied_3 3 rfl rfl)
theorem dX1_copied_76 : decode cX1_copied 76 = .ok (.areturn, 1) := dk_176 (dk_at dksX1_copied_3 4 rfl rfl)
theorem q67 : (Jvm.Cond.initialized "ThreeSizes$Day") ∈ lw_all := lw_g (lw_at lw_m1 2 rfl) rfl
theorem q111 : (Jvm.Cond.instantiable "ThreeSizes$Day" (8 : Nat)) ∈ lw_all := lw_g (lw_at lw_m1 46 rfl) rfl
theorem q113 : (Jvm.Cond.instanceMethod ({ cls := "ThreeSizes$Day", name := "<init>", desc := "()V" } : Jvm.MethodName)) ∈ lw_all := lw_g (lw_at lw_m1 48 rfl) rfl
theorem q114 : (Jvm.Cond.code ({ cls := "ThreeSizes$Day", name := "<init>", desc := "()V" } : Jvm.MethodName) prog_2_method_1_code (1 : Nat) (Option.none : Option Jvm.ClassFile.FieldType)) ∈ lw_all := lw_g (lw_at lw_m1 49 rfl) rfl
theorem q115 : (Jvm.Cond.methodLink "ThreeSizes$Day" (3 : Nat) ({ cls := "java/lang/Object", name := "<init>", desc := "()V" } : Jvm.MethodName)) ∈ lw_all := lw_g (lw_at lw_m1 50 rfl) rfl
theorem q116 : (Jvm.Cond.classLink "ThreeSizes$Day" (9 : Nat) "ThreeSizes$Wall") ∈ lw_all := lw_g (lw_at lw_m1 51 rfl) rfl
theorem q118 : (Jvm.Cond.methodLinkNest "ThreeSizes$Day" (11 : Nat) ({ cls := "ThreeSizes$Wall", name := "<init>", desc := "()V" } : Jvm.MethodName) "ThreeSizes") ∈ lw_tbl := lw_at lw_m1 53 rfl
theorem q127 : (Jvm.Cond.fieldLink "ThreeSizes$Day" (57 : Nat) "ThreeSizes$Wall" "full" "[I") ∈ lw_all := lw_g (lw_at lw_m1 62 rfl) rfl
theorem q132 : (Jvm.Cond.fieldLink "ThreeSizes$Day" (60 : Nat) "ThreeSizes$Wall" "goes" "[I") ∈ lw_all := lw_g (lw_at lw_m1 67 rfl) rfl
theorem q139 : (Jvm.Cond.fieldLink "ThreeSizes$Day" (53 : Nat) "ThreeSizes$Wall" "comes" "[I") ∈ lw_all := lw_g (lw_at lw_m1 74 rfl) rfl
theorem q145 : (Jvm.Cond.fieldLink "ThreeSizes$Day" (79 : Nat) "ThreeSizes$Wall" "worth" "[I") ∈ lw_all := lw_g (lw_at lw_m1 80 rfl) rfl
theorem q148 : (Jvm.Cond.fieldLink "ThreeSizes$Day" (88 : Nat) "ThreeSizes$Wall" "back" "[I") ∈ lw_all := lw_g (lw_at lw_m1 83 rfl) rfl
theorem q153 : (Jvm.Cond.fieldLink "ThreeSizes$Day" (50 : Nat) "ThreeSizes$Wall" "sorts" "I") ∈ lw_all := lw_g (lw_at lw_m1 88 rfl) rfl
theorem q158 : (Jvm.Cond.fieldLink "ThreeSizes$Day" (82 : Nat) "ThreeSizes$Wall" "near" "I") ∈ lw_all := lw_g (lw_at lw_m1 93 rfl) rfl
theorem q162 : (Jvm.Cond.fieldLink "ThreeSizes$Day" (85 : Nat) "ThreeSizes$Wall" "way" "I") ∈ lw_all := lw_g (lw_at lw_m1 97 rfl) rfl
theorem q189 : (Jvm.Cond.fieldLink "ThreeSizes$Day" (12 : Nat) "ThreeSizes$Day" "wall" "LThreeSizes$Wall;") ∈ lw_all := lw_g (lw_at lw_m1 124 rfl) rfl
theorem q191 : (Jvm.Cond.fieldLink "ThreeSizes$Day" (18 : Nat) "ThreeSizes$Day" "seed" "I") ∈ lw_all := lw_g (lw_at lw_m1 126 rfl) rfl
theorem q193 : (Jvm.Cond.fieldLink "ThreeSizes$Day" (27 : Nat) "ThreeSizes$Day" "hours" "I") ∈ lw_all := lw_g (lw_at lw_m1 128 rfl) rfl
theorem q195 : (Jvm.Cond.fieldLink "ThreeSizes$Day" (30 : Nat) "ThreeSizes$Day" "got" "I") ∈ lw_all := lw_g (lw_at lw_m1 130 rfl) rfl
theorem q197 : (Jvm.Cond.fieldLink "ThreeSizes$Day" (33 : Nat) "ThreeSizes$Day" "went" "I") ∈ lw_all := lw_g (lw_at lw_m1 132 rfl) rfl
theorem q199 : (Jvm.Cond.fieldLink "ThreeSizes$Day" (36 : Nat) "ThreeSizes$Day" "returned" "I") ∈ lw_all := lw_g (lw_at lw_m1 134 rfl) rfl
theorem q201 : (Jvm.Cond.fieldLink "ThreeSizes$Day" (39 : Nat) "ThreeSizes$Day" "fetched" "I") ∈ lw_all := lw_g (lw_at lw_m1 136 rfl) rfl
theorem q203 : (Jvm.Cond.fieldLink "ThreeSizes$Day" (42 : Nat) "ThreeSizes$Day" "taken" "I") ∈ lw_all := lw_g (lw_at lw_m1 138 rfl) rfl
theorem q205 : (Jvm.Cond.lays "ThreeSizes$Day" "ThreeSizes$Day" "wall" "LThreeSizes$Wall;") ∈ lw_all := lw_g (lw_at lw_m1 140 rfl) rfl
theorem q206 : (Jvm.Cond.soleField "ThreeSizes$Day" "wall") ∈ lw_all := lw_g (lw_at lw_m1 141 rfl) rfl
theorem q207 : (Jvm.Cond.lays "ThreeSizes$Day" "ThreeSizes$Day" "seed" "I") ∈ lw_all := lw_g (lw_at lw_m1 142 rfl) rfl
theorem q208 : (Jvm.Cond.soleField "ThreeSizes$Day" "seed") ∈ lw_all := lw_g (lw_at lw_m1 143 rfl) rfl
theorem q209 : (Jvm.Cond.lays "ThreeSizes$Day" "ThreeSizes$Day" "hours" "I") ∈ lw_all := lw_g (lw_at lw_m1 144 rfl) rfl
theorem q210 : (Jvm.Cond.soleField "ThreeSizes$Day" "hours") ∈ lw_all := lw_g (lw_at lw_m1 145 rfl) rfl
theorem q211 : (Jvm.Cond.lays "ThreeSizes$Day" "ThreeSizes$Day" "got" "I") ∈ lw_all := lw_g (lw_at lw_m1 146 rfl) rfl
theorem q212 : (Jvm.Cond.soleField "ThreeSizes$Day" "got") ∈ lw_all := lw_g (lw_at lw_m1 147 rfl) rfl
theorem q213 : (Jvm.Cond.lays "ThreeSizes$Day" "ThreeSizes$Day" "went" "I") ∈ lw_all := lw_g (lw_at lw_m1 148 rfl) rfl
theorem q214 : (Jvm.Cond.soleField "ThreeSizes$Day" "went") ∈ lw_all := lw_g (lw_at lw_m1 149 rfl) rfl
theorem q215 : (Jvm.Cond.lays "ThreeSizes$Day" "ThreeSizes$Day" "returned" "I") ∈ lw_all := lw_g (lw_at lw_m1 150 rfl) rfl
theorem q216 : (Jvm.Cond.soleField "ThreeSizes$Day" "returned") ∈ lw_all := lw_g (lw_at lw_m1 151 rfl) rfl
theorem q217 : (Jvm.Cond.lays "ThreeSizes$Day" "ThreeSizes$Day" "fetched" "I") ∈ lw_all := lw_g (lw_at lw_m1 152 rfl) rfl
theorem q218 : (Jvm.Cond.soleField "ThreeSizes$Day" "fetched") ∈ lw_all := lw_g (lw_at lw_m1 153 rfl) rfl
theorem q219 : (Jvm.Cond.lays "ThreeSizes$Day" "ThreeSizes$Day" "taken" "I") ∈ lw_all := lw_g (lw_at lw_m1 154 rfl) rfl
theorem q220 : (Jvm.Cond.soleField "ThreeSizes$Day" "taken") ∈ lw_all := lw_g (lw_at lw_m1 155 rfl) rfl
theorem q221 : (Jvm.Cond.superclass "ThreeSizes$Day" "java/lang/Object") ∈ lw_all := lw_g (lw_at lw_m1 156 rfl) rfl
theorem q1363 : (Jvm.Cond.instanceMethod ({ cls := "ThreeSizes$Day", name := "lives", desc := "(LThreeSizes$Rule;)I" } : Jvm.MethodName)) ∈ lw_all := lw_g (lw_at lw_m6 98 rfl) rfl
theorem q1364 : (Jvm.Cond.selects "ThreeSizes$Day" ({ cls := "ThreeSizes$Day", name := "lives", desc := "(LThreeSizes$Rule;)I" } : Jvm.MethodName) ({ cls := "ThreeSizes$Day", name := "lives", desc := "(LThreeSizes$Rule;)I" } : Jvm.MethodName)) ∈ lw_all := lw_g (lw_at lw_m6 99 rfl) rfl
theorem q1365 : (Jvm.Cond.code ({ cls := "ThreeSizes$Day", name := "lives", desc := "(LThreeSizes$Rule;)I" } : Jvm.MethodName) prog_2_method_5_code (4 : Nat) (Option.some Jvm.ClassFile.FieldType.int)) ∈ lw_all := lw_g (lw_at lw_m6 100 rfl) rfl
theorem q1366 : (Jvm.Cond.methodLink "ThreeSizes$Day" (46 : Nat) ({ cls := "ThreeSizes$Day", name := "draw", desc := "(I)I" } : Jvm.MethodName)) ∈ lw_all := lw_g (lw_at lw_m6 101 rfl) rfl
theorem q1367 : (Jvm.Cond.instanceMethod ({ cls := "ThreeSizes$Day", name := "draw", desc := "(I)I" } : Jvm.MethodName)) ∈ lw_all := lw_g (lw_at lw_m6 102 rfl) rfl
theorem q1368 : (Jvm.Cond.selects "ThreeSizes$Day" ({ cls := "ThreeSizes$Day", name := "draw", desc := "(I)I" } : Jvm.MethodName) ({ cls := "ThreeSizes$Day", name := "draw", desc := "(I)I" } : Jvm.MethodName)) ∈ lw_all := lw_g (lw_at lw_m6 103 rfl) rfl
theorem q1369 : (Jvm.Cond.code ({ cls := "ThreeSizes$Day", name := "draw", desc := "(I)I" } : Jvm.MethodName) prog_2_method_3_code (2 : Nat) (Option.some Jvm.ClassFile.FieldType.int)) ∈ lw_all := lw_g (lw_at lw_m6 104 rfl) rfl
theorem q1370 : (Jvm.Cond.constant "ThreeSizes$Day" (45 : Nat) (1103515245 : Int32)) ∈ lw_all := lw_g (lw_at lw_m6 105 rfl) rfl
theorem q1371 : (Jvm.Cond.methodLink "ThreeSizes$Day" (63 : Nat) ({ cls := "ThreeSizes$Day", name := "comes", desc := "()I" } : Jvm.MethodName)) ∈ lw_all := lw_g (lw_at lw_m6 106 rfl) rfl
theorem q1372 : (Jvm.Cond.privateMethod ({ cls := "ThreeSizes$Day", name := "comes", desc := "()I" } : Jvm.MethodName)) ∈ lw_tbl := lw_at lw_m6 107 rfl
theorem q1373 : (Jvm.Cond.instanceMethod ({ cls := "ThreeSizes$Day", name := "comes", desc := "()I" } : Jvm.MethodName)) ∈ lw_all := lw_g (lw_at lw_m6 108 rfl) rfl
theorem q1374 : (Jvm.Cond.code ({ cls := "ThreeSizes$Day", name := "comes", desc := "()I" } : Jvm.MethodName) prog_2_method_4_code (3 : Nat) (Option.some Jvm.ClassFile.FieldType.int)) ∈ lw_all := lw_g (lw_at lw_m6 109 rfl) rfl
theorem q1375 : (Jvm.Cond.methodLink "ThreeSizes$Day" (66 : Nat) ({ cls := "ThreeSizes$Wall", name := "state", desc := "()I" } : Jvm.MethodName)) ∈ lw_all := lw_g (lw_at lw_m6 110 rfl) rfl
theorem q1376 : (Jvm.Cond.methodLink "ThreeSizes$Day" (75 : Nat) ({ cls := "ThreeSizes$Day", name := "brings", desc := "(II)I" } : Jvm.MethodName)) ∈ lw_all := lw_g (lw_at lw_m6 111 rfl) rfl
theorem q1377 : (Jvm.Cond.privateMethod ({ cls := "ThreeSizes$Day", name := "brings", desc := "(II)I" } : Jvm.MethodName)) ∈ lw_tbl := lw_at lw_m6 112 rfl
theorem q1378 : (Jvm.Cond.instanceMethod ({ cls := "ThreeSizes$Day", name := "brings", desc := "(II)I" } : Jvm.MethodName)) ∈ lw_all := lw_g (lw_at lw_m6 113 rfl) rfl
theorem q1379 : (Jvm.Cond.code ({ cls := "ThreeSizes$Day", name := "brings", desc := "(II)I" } : Jvm.MethodName) prog_2_method_6_code (3 : Nat) (Option.some Jvm.ClassFile.FieldType.int)) ∈ lw_all := lw_g (lw_at lw_m6 114 rfl) rfl
theorem q1394 : (Jvm.Cond.instanceMethod ({ cls := "ThreeSizes$Day", name := "copied", desc := "()LThreeSizes$Day;" } : Jvm.MethodName)) ∈ lw_all := lw_g (lw_at lw_m6 129 rfl) rfl
theorem q1395 : (Jvm.Cond.selects "ThreeSizes$Day" ({ cls := "ThreeSizes$Day", name := "copied", desc := "()LThreeSizes$Day;" } : Jvm.MethodName) ({ cls := "ThreeSizes$Day", name := "copied", desc := "()LThreeSizes$Day;" } : Jvm.MethodName)) ∈ lw_all := lw_g (lw_at lw_m6 130 rfl) rfl
theorem q1396 : (Jvm.Cond.code ({ cls := "ThreeSizes$Day", name := "copied", desc := "()LThreeSizes$Day;" } : Jvm.MethodName) prog_2_method_2_code (2 : Nat) (Option.some (Jvm.ClassFile.FieldType.object "ThreeSizes$Day"))) ∈ lw_all := lw_g (lw_at lw_m6 131 rfl) rfl
theorem q1397 : (Jvm.Cond.classLink "ThreeSizes$Day" (13 : Nat) "ThreeSizes$Day") ∈ lw_all := lw_g (lw_at lw_m6 132 rfl) rfl
theorem q1398 : (Jvm.Cond.methodLink "ThreeSizes$Day" (22 : Nat) ({ cls := "ThreeSizes$Day", name := "<init>", desc := "()V" } : Jvm.MethodName)) ∈ lw_all := lw_g (lw_at lw_m6 133 rfl) rfl
theorem q1399 : (Jvm.Cond.methodLink "ThreeSizes$Day" (23 : Nat) ({ cls := "ThreeSizes$Wall", name := "copied", desc := "()LThreeSizes$Wall;" } : Jvm.MethodName)) ∈ lw_all := lw_g (lw_at lw_m6 134 rfl) rfl
theorem in_X1 : ∀ w ∈ wsX10, w ∈ lw_all := lw_in wsX10 [205, 207, 209, 211, 213, 215, 217, 219] (by decide +kernel) (by decide +kernel)
/-! ThreeSizes$Wall -/
set_option maxRecDepth 100000
def RX2 : String := "ThreeSizes$Wall"
def TX2 : u_T := fun k => match k with
  | 0 => ("ThreeSizes$Wall", "boxes", "[I", true)
  | 1 => ("ThreeSizes$Wall", "full", "[I", true)
  | 2 => ("ThreeSizes$Wall", "goes", "[I", true)
  | 3 => ("ThreeSizes$Wall", "need", "[I", true)
  | 4 => ("ThreeSizes$Wall", "comes", "[I", true)
  | 5 => ("ThreeSizes$Wall", "worth", "[I", true)
  | 6 => ("ThreeSizes$Wall", "back", "[I", true)
  | 7 => ("ThreeSizes$Wall", "rows", "[[J", false)
  | 8 => ("ThreeSizes$Wall", "sorts", "I", false)
  | 9 => ("ThreeSizes$Wall", "near", "I", false)
  | _ => ("ThreeSizes$Wall", "way", "I", false)
def tyX2 : Nat → FieldType := fun k => match k with
  | 0 => .array .int
  | 1 => .array .int
  | 2 => .array .int
  | 3 => .array .int
  | 4 => .array .int
  | 5 => .array .int
  | 6 => .array .int
  | 7 => .array (.array .long)
  | 8 => .int
  | 9 => .int
  | _ => .int
abbrev wsX20 : List Cond := u_ws RX2 TX2 11
theorem nmX2 : ∀ a, a < 11 → ∀ b, b < 11 → a ≠ b → (TX2 a).2.1 ≠ (TX2 b).2.1 := by decide +kernel
theorem tyX2_ok : ∀ k, k < 11 → parseFieldDescriptor (TX2 k).2.2.1 = some (tyX2 k) := by decide +kernel
abbrev cX2_init : ByteArray := prog_15_method_1_code
def yX2_init : MethodName := ⟨RX2, "<init>", "()V"⟩
def dkwX2_init_3 : List UInt8 := [181, 0, 27, 42, 16, 6, 188, 10, 181, 0, 30, 42, 8, 181, 0, 33, 177]
abbrev dktX2_init_3 : List UInt8 := dkwX2_init_3 ++ []
def dkwX2_init_2 : List UInt8 := [181, 0, 18, 42, 16, 6, 188, 10, 181, 0, 21, 42, 16, 6, 188, 10, 181, 0, 24, 42, 16, 6, 188, 10]
abbrev dktX2_init_2 : List UInt8 := dkwX2_init_2 ++ dktX2_init_3
def dkwX2_init_1 : List UInt8 := [6, 188, 10, 181, 0, 15, 42, 6, 188, 10, 89, 3, 6, 79, 89, 4, 6, 79, 89, 5, 6, 79]
abbrev dktX2_init_1 : List UInt8 := dkwX2_init_1 ++ dktX2_init_2
def dkwX2_init_0 : List UInt8 := [42, 183, 0, 3, 42, 6, 188, 10, 89, 3, 5, 79, 89, 4, 5, 79, 89, 5, 5, 79, 181, 0, 9, 42]
abbrev dktX2_init_0 : List UInt8 := dkwX2_init_0 ++ dktX2_init_1
theorem dksX2_init_0 : cX2_init.data.toList.drop 0 = dktX2_init_0 := by decide +kernel
theorem dksX2_init_1 : cX2_init.data.toList.drop 24 = dktX2_init_1 := dk_seg dksX2_init_0 24 rfl rfl
theorem dksX2_init_2 : cX2_init.data.toList.drop 46 = dktX2_init_2 := dk_seg dksX2_init_1 22 rfl rfl
theorem dksX2_init_3 : cX2_init.data.toList.drop 70 = dktX2_init_3 := dk_seg dksX2_init_2 24 rfl rfl
theorem dX2_init_0 : decode cX2_init 0 = .ok (.aload_n 0, 1) := dk_42 (dk_at dksX2_init_0 0 rfl rfl)
theorem dX2_init_1 : decode cX2_init 1 = .ok (.invokespecial 3, 3) := dk_183 0 3 (dk_at dksX2_init_0 1 rfl rfl)
theorem dX2_init_4 : decode cX2_init 4 = .ok (.aload_n 0, 1) := dk_42 (dk_at dksX2_init_0 4 rfl rfl)
theorem dX2_init_5 : decode cX2_init 5 = .ok (.iconst 3, 1) := dk_6 (dk_at dksX2_init_0 5 rfl rfl)
theorem dX2_init_6 : decode cX2_init 6 = .ok (.newarray .int, 2) := dk_188_10 (dk_at dksX2_init_0 6 rfl rfl)
theorem dX2_init_8 : decode cX2_init 8 = .ok (.dup, 1) := dk_89 (dk_at dksX2_init_0 8 rfl rfl)
theorem dX2_init_9 : decode cX2_init 9 = .ok (.iconst 0, 1) := dk_3 (dk_at dksX2_init_0 9 rfl rfl)
theorem dX2_init_10 : decode cX2_init 10 = .ok (.iconst 2, 1) := dk_5 (dk_at dksX2_init_0 10 rfl rfl)
theorem dX2_init_11 : decode cX2_init 11 = .ok (.iastore, 1) := dk_79 (dk_at dksX2_init_0 11 rfl rfl)
theorem dX2_init_12 : decode cX2_init 12 = .ok (.dup, 1) := dk_89 (dk_at dksX2_init_0 12 rfl rfl)
theorem dX2_init_13 : decode cX2_init 13 = .ok (.iconst 1, 1) := dk_4 (dk_at dksX2_init_0 13 rfl rfl)
theorem dX2_init_14 : decode cX2_init 14 = .ok (.iconst 2, 1) := dk_5 (dk_at dksX2_init_0 14 rfl rfl)
theorem dX2_init_15 : decode cX2_init 15 = .ok (.iastore, 1) := dk_79 (dk_at dksX2_init_0 15 rfl rfl)
theorem dX2_init_16 : decode cX2_init 16 = .ok (.dup, 1) := dk_89 (dk_at dksX2_init_0 16 rfl rfl)
theorem dX2_init_17 : decode cX2_init 17 = .ok (.iconst 2, 1) := dk_5 (dk_at dksX2_init_0 17 rfl rfl)
theorem dX2_init_18 : decode cX2_init 18 = .ok (.iconst 2, 1) := dk_5 (dk_at dksX2_init_0 18 rfl rfl)
theorem dX2_init_19 : decode cX2_init 19 = .ok (.iastore, 1) := dk_79 (dk_at dksX2_init_0 19 rfl rfl)
theorem dX2_init_20 : decode cX2_init 20 = .ok (.putfield 9, 3) := dk_181 0 9 (dk_at dksX2_init_0 20 rfl rfl)
theorem dX2_init_23 : decode cX2_init 23 = .ok (.aload_n 0, 1) := dk_42 (dk_at dksX2_init_0 23 rfl rfl)
theorem dX2_init_24 : decode cX2_init 24 = .ok (.iconst 3, 1) := dk_6 (dk_at dksX2_init_1 0 rfl rfl)
theorem dX2_init_25 : decode cX2_init 25 = .ok (.newarray .int, 2) := dk_188_10 (dk_at dksX2_init_1 1 rfl rfl)
theorem dX2_init_27 : decode cX2_init 27 = .ok (.putfield 15, 3) := dk_181 0 15 (dk_at dksX2_init_1 3 rfl rfl)
theorem dX2_init_30 : decode cX2_init 30 = .ok (.aload_n 0, 1) := dk_42 (dk_at dksX2_init_1 6 rfl rfl)
theorem dX2_init_31 : decode cX2_init 31 = .ok (.iconst 3, 1) := dk_6 (dk_at dksX2_init_1 7 rfl rfl)
theorem dX2_init_32 : decode cX2_init 32 = .ok (.newarray .int, 2) := dk_188_10 (dk_at dksX2_init_1 8 rfl rfl)
theorem dX2_init_34 : decode cX2_init 34 = .ok (.dup, 1) := dk_89 (dk_at dksX2_init_1 10 rfl rfl)
theorem dX2_init_35 : decode cX2_init 35 = .ok (.iconst 0, 1) := dk_3 (dk_at dksX2_init_1 11 rfl rfl)
theorem dX2_init_36 : decode cX2_init 36 = .ok (.iconst 3, 1) := dk_6 (dk_at dksX2_init_1 12 rfl rfl)
theorem dX2_init_37 : decode cX2_init 37 = .ok (.iastore, 1) := dk_79 (dk_at dksX2_init_1 13 rfl rfl)
theorem dX2_init_38 : decode cX2_init 38 = .ok (.dup, 1) := dk_89 (dk_at dksX2_init_1 14 rfl rfl)
theorem dX2_init_39 : decode cX2_init 39 = .ok (.iconst 1, 1) := dk_4 (dk_at dksX2_init_1 15 rfl rfl)
theorem dX2_init_40 : decode cX2_init 40 = .ok (.iconst 3, 1) := dk_6 (dk_at dksX2_init_1 16 rfl rfl)
theorem dX2_init_41 : decode cX2_init 41 = .ok (.iastore, 1) := dk_79 (dk_at dksX2_init_1 17 rfl rfl)
theorem dX2_init_42 : decode cX2_init 42 = .ok (.dup, 1) := dk_89 (dk_at dksX2_init_1 18 rfl rfl)
theorem dX2_init_43 : decode cX2_init 43 = .ok (.iconst 2, 1) := dk_5 (dk_at dksX2_init_1 19 rfl rfl)
theorem dX2_init_44 : decode cX2_init 44 = .ok (.iconst 3, 1) := dk_6 (dk_at dksX2_init_1 20 rfl rfl)
theorem dX2_init_45 : decode cX2_init 45 = .ok (.iastore, 1) := dk_79 (dk_at dksX2_init_1 21 rfl rfl)
theorem dX2_init_46 : decode cX2_init 46 = .ok (.putfield 18, 3) := dk_181 0 18 (dk_at dksX2_init_2 0 rfl rfl)
theorem dX2_init_49 : decode cX2_init 49 = .ok (.aload_n 0, 1) := dk_42 (dk_at dksX2_init_2 3 rfl rfl)
theorem dX2_init_50 : decode cX2_init 50 = .ok (.bipush 6, 2) := dk_16 6 (dk_at dksX2_init_2 4 rfl rfl)
theorem dX2_init_52 : decode cX2_init 52 = .ok (.newarray .int, 2) := dk_188_10 (dk_at dksX2_init_2 6 rfl rfl)
theorem dX2_init_54 : decode cX2_init 54 = .ok (.putfield 21, 3) := dk_181 0 21 (dk_at dksX2_init_2 8 rfl rfl)
theorem dX2_init_57 : decode cX2_init 57 = .ok (.aload_n 0, 1) := dk_42 (dk_at dksX2_init_2 11 rfl rfl)
theorem dX2_init_58 : decode cX2_init 58 = .ok (.bipush 6, 2) := dk_16 6 (dk_at dksX2_init_2 12 rfl rfl)
theorem dX2_init_60 : decode cX2_init 60 = .ok (.newarray .int, 2) := dk_188_10 (dk_at dksX2_init_2 14 rfl rfl)
theorem dX2_init_62 : decode cX2_init 62 = .ok (.putfield 24, 3) := dk_181 0 24 (dk_at dksX2_init_2 16 rfl rfl)
theorem dX2_init_65 : decode cX2_init 65 = .ok (.aload_n 0, 1) := dk_42 (dk_at dksX2_init_2 19 rfl rfl)
theorem dX2_init_66 : decode cX2_init 66 = .ok (.bipush 6, 2) := dk_16 6 (dk_at dksX2_init_2 20 rfl rfl)
theorem dX2_init_68 : decode cX2_init 68 = .ok (.newarray .int, 2) := dk_188_10 (dk_at dksX2_init_2 22 rfl rfl)
theorem dX2_init_70 : decode cX2_init 70 = .ok (.putfield 27, 3) := dk_181 0 27 (dk_at dksX2_init_3 0 rfl rfl)
theorem dX2_init_73 : decode cX2_init 73 = .ok (.aload_n 0, 1) := dk_42 (dk_at dksX2_init_3 3 rfl rfl)
theorem dX2_init_74 : decode cX2_init 74 = .ok (.bipush 6, 2) := dk_16 6 (dk_at dksX2_init_3 4 rfl rfl)
theorem dX2_init_76 : decode cX2_init 76 = .ok (.newarray .int, 2) := dk_188_10 (dk_at dksX2_init_3 6 rfl rfl)
theorem dX2_init_78 : decode cX2_init 78 = .ok (.putfield 30, 3) := dk_181 0 30 (dk_at dksX2_init_3 8 rfl rfl)
theorem dX2_init_81 : decode cX2_init 81 = .ok (.aload_n 0, 1) := dk_42 (dk_at dksX2_init_3 11 rfl rfl)
theorem dX2_init_82 : decode cX2_init 82 = .ok (.iconst 5, 1) := dk_8 (dk_at dksX2_init_3 12 rfl rfl)
theorem dX2_init_83 : decode cX2_init 83 = .ok (.putfield 33, 3) := dk_181 0 33 (dk_at dksX2_init_3 13 rfl rfl)
theorem dX2_init_86 : decode cX2_init 86 = .ok (.return_, 1) := dk_177 (dk_at dksX2_init_3 16 rfl rfl)
abbrev cX2_all : ByteArray := prog_15_method_7_code
def yX2_all : MethodName := ⟨RX2, "all", "()I"⟩
def dkwX2_all_1 : List UInt8 := [167, 255, 236, 27, 172]
abbrev dktX2_all_1 : List UInt8 := dkwX2_all_1 ++ []
def dkwX2_all_0 : List UInt8 := [3, 60, 3, 61, 28, 42, 180, 0, 55, 162, 0, 18, 27, 42, 180, 0, 24, 28, 46, 96, 60, 132, 2, 1]
abbrev dktX2_all_0 : List UInt8 := dkwX2_all_0 ++ dktX2_all_1
theorem dksX2_all_0 : cX2_all.data.toList.drop 0 = dktX2_all_0 := by decide +kernel
theorem dksX2_all_1 : cX2_all.data.toList.drop 24 = dktX2_all_1 := dk_seg dksX2_all_0 24 rfl rfl
theorem dX2_all_0 : decode cX2_all 0 = .ok (.iconst 0, 1) := dk_3 (dk_at dksX2_all_0 0 rfl rfl)
theorem dX2_all_1 : decode cX2_all 1 = .ok (.istore_n 1, 1) := dk_60 (dk_at dksX2_all_0 1 rfl rfl)
theorem dX2_all_2 : decode cX2_all 2 = .ok (.iconst 0, 1) := dk_3 (dk_at dksX2_all_0 2 rfl rfl)
theorem dX2_all_3 : decode cX2_all 3 = .ok (.istore_n 2, 1) := dk_61 (dk_at dksX2_all_0 3 rfl rfl)
theorem dX2_all_4 : decode cX2_all 4 = .ok (.iload_n 2, 1) := dk_28 (dk_at dksX2_all_0 4 rfl rfl)
theorem dX2_all_5 : decode cX2_all 5 = .ok (.aload_n 0, 1) := dk_42 (dk_at dksX2_all_0 5 rfl rfl)
theorem dX2_all_6 : decode cX2_all 6 = .ok (.getfield 55, 3) := dk_180 0 55 (dk_at dksX2_all_0 6 rfl rfl)
theorem dX2_all_9 : decode cX2_all 9 = .ok (.if_icmp .ge 18, 3) := dk_162 0 18 (dk_at dksX2_all_0 9 rfl rfl)
theorem dX2_all_12 : decode cX2_all 12 = .ok (.iload_n 1, 1) := dk_27 (dk_at dksX2_all_0 12 rfl rfl)
theorem dX2_all_13 : decode cX2_all 13 = .ok (.aload_n 0, 1) := dk_42 (dk_at dksX2_all_0 13 rfl rfl)
theorem dX2_all_14 : decode cX2_all 14 = .ok (.getfield 24, 3) := dk_180 0 24 (dk_at dksX2_all_0 14 rfl rfl)
theorem dX2_all_17 : decode cX2_all 17 = .ok (.iload_n 2, 1) := dk_28 (dk_at dksX2_all_0 17 rfl rfl)
theorem dX2_all_18 : decode cX2_all 18 = .ok (.iaload, 1) := dk_46 (dk_at dksX2_all_0 18 rfl rfl)
theorem dX2_all_19 : decode cX2_all 19 = .ok (.iadd, 1) := dk_96 (dk_at dksX2_all_0 19 rfl rfl)
theorem dX2_all_20 : decode cX2_all 20 = .ok (.istore_n 1, 1) := dk_60 (dk_at dksX2_all_0 20 rfl rfl)
theorem dX2_all_21 : decode cX2_all 21 = .ok (.iinc 2 1, 3) := dk_132 2 1 (dk_at dksX2_all_0 21 rfl rfl)
theorem dX2_all_24 : decode cX2_all 24 = .ok (.goto (-20), 3) := dk_167 255 236 (dk_at dksX2_all_1 0 rfl rfl)
theorem dX2_all_27 : decode cX2_all 27 = .ok (.iload_n 1, 1) := dk_27 (dk_at dksX2_all_1 3 rfl rfl)
theorem dX2_all_28 : decode cX2_all 28 = .ok (.ireturn, 1) := dk_172 (dk_at dksX2_all_1 4 rfl rfl)
abbrev cX2_row : ByteArray := prog_15_method_2_code
def yX2_row : MethodName := ⟨RX2, "row", "(I)[J"⟩
def dkwX2_row_1 : List UInt8 := [181, 0, 37, 42, 180, 0, 37, 27, 50, 9, 184, 0, 42, 42, 180, 0, 37, 27, 50, 176]
abbrev dktX2_row_1 : List UInt8 := dkwX2_row_1 ++ []
def dkwX2_row_0 : List UInt8 := [42, 42, 180, 0, 37, 199, 0, 13, 5, 16, 125, 197, 0, 41, 2, 167, 0, 7, 42, 180, 0, 37]
abbrev dktX2_row_0 : List UInt8 := dkwX2_row_0 ++ dktX2_row_1
theorem dksX2_row_0 : cX2_row.data.toList.drop 0 = dktX2_row_0 := by decide +kernel
theorem dksX2_row_1 : cX2_row.data.toList.drop 22 = dktX2_row_1 := dk_seg dksX2_row_0 22 rfl rfl
theorem dX2_row_0 : decode cX2_row 0 = .ok (.aload_n 0, 1) := dk_42 (dk_at dksX2_row_0 0 rfl rfl)
theorem dX2_row_1 : decode cX2_row 1 = .ok (.aload_n 0, 1) := dk_42 (dk_at dksX2_row_0 1 rfl rfl)
theorem dX2_row_2 : decode cX2_row 2 = .ok (.getfield 37, 3) := dk_180 0 37 (dk_at dksX2_row_0 2 rfl rfl)
theorem dX2_row_5 : decode cX2_row 5 = .ok (.ifnonnull 13, 3) := dk_199 0 13 (dk_at dksX2_row_0 5 rfl rfl)
theorem dX2_row_8 : decode cX2_row 8 = .ok (.iconst 2, 1) := dk_5 (dk_at dksX2_row_0 8 rfl rfl)
theorem dX2_row_9 : decode cX2_row 9 = .ok (.bipush 125, 2) := dk_16 125 (dk_at dksX2_row_0 9 rfl rfl)
theorem dX2_row_11 : decode cX2_row 11 = .ok (.multianewarray 41 2, 4) := by decide +kernel
theorem dX2_row_15 : decode cX2_row 15 = .ok (.goto 7, 3) := dk_167 0 7 (dk_at dksX2_row_0 15 rfl rfl)
theorem dX2_row_18 : decode cX2_row 18 = .ok (.aload_n 0, 1) := dk_42 (dk_at dksX2_row_0 18 rfl rfl)
theorem dX2_row_19 : decode cX2_row 19 = .ok (.getfield 37, 3) := dk_180 0 37 (dk_at dksX2_row_0 19 rfl rfl)
theorem dX2_row_22 : decode cX2_row 22 = .ok (.putfield 37, 3) := dk_181 0 37 (dk_at dksX2_row_1 0 rfl rfl)
theorem dX2_row_25 : decode cX2_row 25 = .ok (.aload_n 0, 1) := dk_42 (dk_at dksX2_row_1 3 rfl rfl)
theorem dX2_row_26 : decode cX2_row 26 = .ok (.getfield 37, 3) := dk_180 0 37 (dk_at dksX2_row_1 4 rfl rfl)
theorem dX2_row_29 : decode cX2_row 29 = .ok (.iload_n 1, 1) := dk_27 (dk_at dksX2_row_1 7 rfl rfl)
theorem dX2_row_30 : decode cX2_row 30 = .ok (.aaload, 1) := dk_50 (dk_at dksX2_row_1 8 rfl rfl)
theorem dX2_row_31 : decode cX2_row 31 = .ok (.lconst 0, 1) := dk_9 (dk_at dksX2_row_1 9 rfl rfl)
theorem dX2_row_32 : decode cX2_row 32 = .ok (.invokestatic 42, 3) := dk_184 0 42 (dk_at dksX2_row_1 10 rfl rfl)
theorem dX2_row_35 : decode cX2_row 35 = .ok (.aload_n 0, 1) := dk_42 (dk_at dksX2_row_1 13 rfl rfl)
theorem dX2_row_36 : decode cX2_row 36 = .ok (.getfield 37, 3) := dk_180 0 37 (dk_at dksX2_row_1 14 rfl rfl)
theorem dX2_row_39 : decode cX2_row 39 = .ok (.iload_n 1, 1) := dk_27 (dk_at dksX2_row_1 17 rfl rfl)
theorem dX2_row_40 : decode cX2_row 40 = .ok (.aaload, 1) := dk_50 (dk_at dksX2_row_1 18 rfl rfl)
theorem dX2_row_41 : decode cX2_row 41 = .ok (.areturn, 1) := dk_176 (dk_at dksX2_row_1 19 rfl rfl)
abbrev cX2_isState : ByteArray := prog_15_method_6_code
def yX2_isState : MethodName := ⟨RX2, "isState", "(I)Z"⟩
def dkwX2_isState_1 : List UInt8 := [42, 180, 0, 9, 29, 46, 163, 0, 7, 4, 167, 0, 4, 3, 61, 132, 3, 1, 167, 255, 224, 28, 172]
abbrev dktX2_isState_1 : List UInt8 := dkwX2_isState_1 ++ []
def dkwX2_isState_0 : List UInt8 := [27, 3, 16, 124, 184, 0, 68, 61, 3, 62, 29, 6, 162, 0, 33, 28, 153, 0, 29, 27, 29, 184, 0, 72]
abbrev dktX2_isState_0 : List UInt8 := dkwX2_isState_0 ++ dktX2_isState_1
theorem dksX2_isState_0 : cX2_isState.data.toList.drop 0 = dktX2_isState_0 := by decide +kernel
theorem dksX2_isState_1 : cX2_isState.data.toList.drop 24 = dktX2_isState_1 := dk_seg dksX2_isState_0 24 rfl rfl
theorem dX2_isState_0 : decode cX2_isState 0 = .ok (.iload_n 1, 1) := dk_27 (dk_at dksX2_isState_0 0 rfl rfl)
theorem dX2_isState_1 : decode cX2_isState 1 = .ok (.iconst 0, 1) := dk_3 (dk_at dksX2_isState_0 1 rfl rfl)
theorem dX2_isState_2 : decode cX2_isState 2 = .ok (.bipush 124, 2) := dk_16 124 (dk_at dksX2_isState_0 2 rfl rfl)
theorem dX2_isState_4 : decode cX2_isState 4 = .ok (.invokestatic 68, 3) := dk_184 0 68 (dk_at dksX2_isState_0 4 rfl rfl)
theorem dX2_isState_7 : decode cX2_isState 7 = .ok (.istore_n 2, 1) := dk_61 (dk_at dksX2_isState_0 7 rfl rfl)
theorem dX2_isState_8 : decode cX2_isState 8 = .ok (.iconst 0, 1) := dk_3 (dk_at dksX2_isState_0 8 rfl rfl)
theorem dX2_isState_9 : decode cX2_isState 9 = .ok (.istore_n 3, 1) := dk_62 (dk_at dksX2_isState_0 9 rfl rfl)
theorem dX2_isState_10 : decode cX2_isState 10 = .ok (.iload_n 3, 1) := dk_29 (dk_at dksX2_isState_0 10 rfl rfl)
theorem dX2_isState_11 : decode cX2_isState 11 = .ok (.iconst 3, 1) := dk_6 (dk_at dksX2_isState_0 11 rfl rfl)
theorem dX2_isState_12 : decode cX2_isState 12 = .ok (.if_icmp .ge 33, 3) := dk_162 0 33 (dk_at dksX2_isState_0 12 rfl rfl)
theorem dX2_isState_15 : decode cX2_isState 15 = .ok (.iload_n 2, 1) := dk_28 (dk_at dksX2_isState_0 15 rfl rfl)
theorem dX2_isState_16 : decode cX2_isState 16 = .ok (.ifCond .eq 29, 3) := dk_153 0 29 (dk_at dksX2_isState_0 16 rfl rfl)
theorem dX2_isState_19 : decode cX2_isState 19 = .ok (.iload_n 1, 1) := dk_27 (dk_at dksX2_isState_0 19 rfl rfl)
theorem dX2_isState_20 : decode cX2_isState 20 = .ok (.iload_n 3, 1) := dk_29 (dk_at dksX2_isState_0 20 rfl rfl)
theorem dX2_isState_21 : decode cX2_isState 21 = .ok (.invokestatic 72, 3) := dk_184 0 72 (dk_at dksX2_isState_0 21 rfl rfl)
theorem dX2_isState_24 : decode cX2_isState 24 = .ok (.aload_n 0, 1) := dk_42 (dk_at dksX2_isState_1 0 rfl rfl)
theorem dX2_isState_25 : decode cX2_isState 25 = .ok (.getfield 9, 3) := dk_180 0 9 (dk_at dksX2_isState_1 1 rfl rfl)
theorem dX2_isState_28 : decode cX2_isState 28 = .ok (.iload_n 3, 1) := dk_29 (dk_at dksX2_isState_1 4 rfl rfl)
theorem dX2_isState_29 : decode cX2_isState 29 = .ok (.iaload, 1) := dk_46 (dk_at dksX2_isState_1 5 rfl rfl)
theorem dX2_isState_30 : decode cX2_isState 30 = .ok (.if_icmp .gt 7, 3) := dk_163 0 7 (dk_at dksX2_isState_1 6 rfl rfl)
theorem dX2_isState_33 : decode cX2_isState 33 = .ok (.iconst 1, 1) := dk_4 (dk_at dksX2_isState_1 9 rfl rfl)
theorem dX2_isState_34 : decode cX2_isState 34 = .ok (.goto 4, 3) := dk_167 0 4 (dk_at dksX2_isState_1 10 rfl rfl)
theorem dX2_isState_37 : decode cX2_isState 37 = .ok (.iconst 0, 1) := dk_3 (dk_at dksX2_isState_1 13 rfl rfl)
theorem dX2_isState_38 : decode cX2_isState 38 = .ok (.istore_n 2, 1) := dk_61 (dk_at dksX2_isState_1 14 rfl rfl)
theorem dX2_isState_39 : decode cX2_isState 39 = .ok (.iinc 3 1, 3) := dk_132 3 1 (dk_at dksX2_isState_1 15 rfl rfl)
theorem dX2_isState_42 : decode cX2_isState 42 = .ok (.goto (-32), 3) := dk_167 255 224 (dk_at dksX2_isState_1 18 rfl rfl)
theorem dX2_isState_45 : decode cX2_isState 45 = .ok (.iload_n 2, 1) := dk_28 (dk_at dksX2_isState_1 21 rfl rfl)
theorem dX2_isState_46 : decode cX2_isState 46 = .ok (.ireturn, 1) := dk_172 (dk_at dksX2_isState_1 22 rfl rfl)
abbrev cX2_fits : ByteArray := prog_15_method_9_code
def yX2_fits : MethodName := ⟨RX2, "fits", "(III)Z"⟩
def dkwX2_fits_0 : List UInt8 := [28, 42, 180, 0, 21, 27, 46, 161, 0, 15, 29, 28, 184, 0, 72, 158, 0, 7, 4, 167, 0, 4, 3, 172]
abbrev dktX2_fits_0 : List UInt8 := dkwX2_fits_0 ++ []
theorem dksX2_fits_0 : cX2_fits.data.toList.drop 0 = dktX2_fits_0 := by decide +kernel
theorem dX2_fits_0 : decode cX2_fits 0 = .ok (.iload_n 2, 1) := dk_28 (dk_at dksX2_fits_0 0 rfl rfl)
theorem dX2_fits_1 : decode cX2_fits 1 = .ok (.aload_n 0, 1) := dk_42 (dk_at dksX2_fits_0 1 rfl rfl)
theorem dX2_fits_2 : decode cX2_fits 2 = .ok (.getfield 21, 3) := dk_180 0 21 (dk_at dksX2_fits_0 2 rfl rfl)
theorem dX2_fits_5 : decode cX2_fits 5 = .ok (.iload_n 1, 1) := dk_27 (dk_at dksX2_fits_0 5 rfl rfl)
theorem dX2_fits_6 : decode cX2_fits 6 = .ok (.iaload, 1) := dk_46 (dk_at dksX2_fits_0 6 rfl rfl)
theorem dX2_fits_7 : decode cX2_fits 7 = .ok (.if_icmp .lt 15, 3) := dk_161 0 15 (dk_at dksX2_fits_0 7 rfl rfl)
theorem dX2_fits_10 : decode cX2_fits 10 = .ok (.iload_n 3, 1) := dk_29 (dk_at dksX2_fits_0 10 rfl rfl)
theorem dX2_fits_11 : decode cX2_fits 11 = .ok (.iload_n 2, 1) := dk_28 (dk_at dksX2_fits_0 11 rfl rfl)
theorem dX2_fits_12 : decode cX2_fits 12 = .ok (.invokestatic 72, 3) := dk_184 0 72 (dk_at dksX2_fits_0 12 rfl rfl)
theorem dX2_fits_15 : decode cX2_fits 15 = .ok (.ifCond .le 7, 3) := dk_158 0 7 (dk_at dksX2_fits_0 15 rfl rfl)
theorem dX2_fits_18 : decode cX2_fits 18 = .ok (.iconst 1, 1) := dk_4 (dk_at dksX2_fits_0 18 rfl rfl)
theorem dX2_fits_19 : decode cX2_fits 19 = .ok (.goto 4, 3) := dk_167 0 4 (dk_at dksX2_fits_0 19 rfl rfl)
theorem dX2_fits_22 : decode cX2_fits 22 = .ok (.iconst 0, 1) := dk_3 (dk_at dksX2_fits_0 22 rfl rfl)
theorem dX2_fits_23 : decode cX2_fits 23 = .ok (.ireturn, 1) := dk_172 (dk_at dksX2_fits_0 23 rfl rfl)
abbrev cX2_brings : ByteArray := prog_15_method_11_code
def yX2_brings : MethodName := ⟨RX2, "brings", "(III[J)J"⟩
def dkwX2_brings_1 : List UInt8 := [180, 0, 27, 27, 46, 133, 105, 25, 4, 29, 28, 184, 0, 61, 100, 47, 97, 173]
abbrev dktX2_brings_1 : List UInt8 := dkwX2_brings_1 ++ []
def dkwX2_brings_0 : List UInt8 := [28, 2, 160, 0, 16, 42, 27, 182, 0, 78, 25, 4, 29, 47, 97, 167, 0, 24, 20, 0, 82, 42]
abbrev dktX2_brings_0 : List UInt8 := dkwX2_brings_0 ++ dktX2_brings_1
theorem dksX2_brings_0 : cX2_brings.data.toList.drop 0 = dktX2_brings_0 := by decide +kernel
theorem dksX2_brings_1 : cX2_brings.data.toList.drop 22 = dktX2_brings_1 := dk_seg dksX2_brings_0 22 rfl rfl
theorem dX2_brings_0 : decode cX2_brings 0 = .ok (.iload_n 2, 1) := dk_28 (dk_at dksX2_brings_0 0 rfl rfl)
theorem dX2_brings_1 : decode cX2_brings 1 = .ok (.iconst (-1), 1) := dk_2 (dk_at dksX2_brings_0 1 rfl rfl)
theorem dX2_brings_2 : decode cX2_brings 2 = .ok (.if_icmp .ne 16, 3) := dk_160 0 16 (dk_at dksX2_brings_0 2 rfl rfl)
theorem dX2_brings_5 : decode cX2_brings 5 = .ok (.aload_n 0, 1) := dk_42 (dk_at dksX2_brings_0 5 rfl rfl)
theorem dX2_brings_6 : decode cX2_brings 6 = .ok (.iload_n 1, 1) := dk_27 (dk_at dksX2_brings_0 6 rfl rfl)
theorem dX2_brings_7 : decode cX2_brings 7 = .ok (.invokevirtual 78, 3) := dk_182 0 78 (dk_at dksX2_brings_0 7 rfl rfl)
theorem dX2_brings_10 : decode cX2_brings 10 = .ok (.aload 4, 2) := dk_25 4 (dk_at dksX2_brings_0 10 rfl rfl)
theorem dX2_brings_12 : decode cX2_brings 12 = .ok (.iload_n 3, 1) := dk_29 (dk_at dksX2_brings_0 12 rfl rfl)
theorem dX2_brings_13 : decode cX2_brings 13 = .ok (.laload, 1) := dk_47 (dk_at dksX2_brings_0 13 rfl rfl)
theorem dX2_brings_14 : decode cX2_brings 14 = .ok (.ladd, 1) := dk_97 (dk_at dksX2_brings_0 14 rfl rfl)
theorem dX2_brings_15 : decode cX2_brings 15 = .ok (.goto 24, 3) := dk_167 0 24 (dk_at dksX2_brings_0 15 rfl rfl)
theorem dX2_brings_18 : decode cX2_brings 18 = .ok (.ldc2_w 82, 3) := dk_20 0 82 (dk_at dksX2_brings_0 18 rfl rfl)
theorem dX2_brings_21 : decode cX2_brings 21 = .ok (.aload_n 0, 1) := dk_42 (dk_at dksX2_brings_0 21 rfl rfl)
theorem dX2_brings_22 : decode cX2_brings 22 = .ok (.getfield 27, 3) := dk_180 0 27 (dk_at dksX2_brings_1 0 rfl rfl)
theorem dX2_brings_25 : decode cX2_brings 25 = .ok (.iload_n 1, 1) := dk_27 (dk_at dksX2_brings_1 3 rfl rfl)
theorem dX2_brings_26 : decode cX2_brings 26 = .ok (.iaload, 1) := dk_46 (dk_at dksX2_brings_1 4 rfl rfl)
theorem dX2_brings_27 : decode cX2_brings 27 = .ok (.i2l, 1) := dk_133 (dk_at dksX2_brings_1 5 rfl rfl)
theorem dX2_brings_28 : decode cX2_brings 28 = .ok (.lmul, 1) := dk_105 (dk_at dksX2_brings_1 6 rfl rfl)
theorem dX2_brings_29 : decode cX2_brings 29 = .ok (.aload 4, 2) := dk_25 4 (dk_at dksX2_brings_1 7 rfl rfl)
theorem dX2_brings_31 : decode cX2_brings 31 = .ok (.iload_n 3, 1) := dk_29 (dk_at dksX2_brings_1 9 rfl rfl)
theorem dX2_brings_32 : decode cX2_brings 32 = .ok (.iload_n 2, 1) := dk_28 (dk_at dksX2_brings_1 10 rfl rfl)
theorem dX2_brings_33 : decode cX2_brings 33 = .ok (.invokestatic 61, 3) := dk_184 0 61 (dk_at dksX2_brings_1 11 rfl rfl)
theorem dX2_brings_36 : decode cX2_brings 36 = .ok (.isub, 1) := dk_100 (dk_at dksX2_brings_1 14 rfl rfl)
theorem dX2_brings_37 : decode cX2_brings 37 = .ok (.laload, 1) := dk_47 (dk_at dksX2_brings_1 15 rfl rfl)
theorem dX2_brings_38 : decode cX2_brings 38 = .ok (.ladd, 1) := dk_97 (dk_at dksX2_brings_1 16 rfl rfl)
theorem dX2_brings_39 : decode cX2_brings 39 = .ok (.lreturn, 1) := dk_173 (dk_at dksX2_brings_1 17 rfl rfl)
abbrev cX2_lost : ByteArray := prog_15_method_10_code
def yX2_lost : MethodName := ⟨RX2, "lost", "(I)J"⟩
def dkwX2_lost_1 : List UInt8 := [180, 0, 58, 100, 42, 180, 0, 30, 27, 46, 104, 100, 133, 105, 173]
abbrev dktX2_lost_1 : List UInt8 := dkwX2_lost_1 ++ []
def dkwX2_lost_0 : List UInt8 := [20, 0, 76, 42, 180, 0, 58, 42, 180, 0, 27, 27, 46, 42, 180, 0, 33, 100, 104, 16, 10, 42]
abbrev dktX2_lost_0 : List UInt8 := dkwX2_lost_0 ++ dktX2_lost_1
theorem dksX2_lost_0 : cX2_lost.data.toList.drop 0 = dktX2_lost_0 := by decide +kernel
theorem dksX2_lost_1 : cX2_lost.data.toList.drop 22 = dktX2_lost_1 := dk_seg dksX2_lost_0 22 rfl rfl
theorem dX2_lost_0 : decode cX2_lost 0 = .ok (.ldc2_w 76, 3) := dk_20 0 76 (dk_at dksX2_lost_0 0 rfl rfl)
theorem dX2_lost_3 : decode cX2_lost 3 = .ok (.aload_n 0, 1) := dk_42 (dk_at dksX2_lost_0 3 rfl rfl)
theorem dX2_lost_4 : decode cX2_lost 4 = .ok (.getfield 58, 3) := dk_180 0 58 (dk_at dksX2_lost_0 4 rfl rfl)
theorem dX2_lost_7 : decode cX2_lost 7 = .ok (.aload_n 0, 1) := dk_42 (dk_at dksX2_lost_0 7 rfl rfl)
theorem dX2_lost_8 : decode cX2_lost 8 = .ok (.getfield 27, 3) := dk_180 0 27 (dk_at dksX2_lost_0 8 rfl rfl)
theorem dX2_lost_11 : decode cX2_lost 11 = .ok (.iload_n 1, 1) := dk_27 (dk_at dksX2_lost_0 11 rfl rfl)
theorem dX2_lost_12 : decode cX2_lost 12 = .ok (.iaload, 1) := dk_46 (dk_at dksX2_lost_0 12 rfl rfl)
theorem dX2_lost_13 : decode cX2_lost 13 = .ok (.aload_n 0, 1) := dk_42 (dk_at dksX2_lost_0 13 rfl rfl)
theorem dX2_lost_14 : decode cX2_lost 14 = .ok (.getfield 33, 3) := dk_180 0 33 (dk_at dksX2_lost_0 14 rfl rfl)
theorem dX2_lost_17 : decode cX2_lost 17 = .ok (.isub, 1) := dk_100 (dk_at dksX2_lost_0 17 rfl rfl)
theorem dX2_lost_18 : decode cX2_lost 18 = .ok (.imul, 1) := dk_104 (dk_at dksX2_lost_0 18 rfl rfl)
theorem dX2_lost_19 : decode cX2_lost 19 = .ok (.bipush 10, 2) := dk_16 10 (dk_at dksX2_lost_0 19 rfl rfl)
theorem dX2_lost_21 : decode cX2_lost 21 = .ok (.aload_n 0, 1) := dk_42 (dk_at dksX2_lost_0 21 rfl rfl)
theorem dX2_lost_22 : decode cX2_lost 22 = .ok (.getfield 58, 3) := dk_180 0 58 (dk_at dksX2_lost_1 0 rfl rfl)
theorem dX2_lost_25 : decode cX2_lost 25 = .ok (.isub, 1) := dk_100 (dk_at dksX2_lost_1 3 rfl rfl)
theorem dX2_lost_26 : decode cX2_lost 26 = .ok (.aload_n 0, 1) := dk_42 (dk_at dksX2_lost_1 4 rfl rfl)
theorem dX2_lost_27 : decode cX2_lost 27 = .ok (.getfield 30, 3) := dk_180 0 30 (dk_at dksX2_lost_1 5 rfl rfl)
theorem dX2_lost_30 : decode cX2_lost 30 = .ok (.iload_n 1, 1) := dk_27 (dk_at dksX2_lost_1 8 rfl rfl)
theorem dX2_lost_31 : decode cX2_lost 31 = .ok (.iaload, 1) := dk_46 (dk_at dksX2_lost_1 9 rfl rfl)
theorem dX2_lost_32 : decode cX2_lost 32 = .ok (.imul, 1) := dk_104 (dk_at dksX2_lost_1 10 rfl rfl)
theorem dX2_lost_33 : decode cX2_lost 33 = .ok (.isub, 1) := dk_100 (dk_at dksX2_lost_1 11 rfl rfl)
theorem dX2_lost_34 : decode cX2_lost 34 = .ok (.i2l, 1) := dk_133 (dk_at dksX2_lost_1 12 rfl rfl)
theorem dX2_lost_35 : decode cX2_lost 35 = .ok (.lmul, 1) := dk_105 (dk_at dksX2_lost_1 13 rfl rfl)
theorem dX2_lost_36 : decode cX2_lost 36 = .ok (.lreturn, 1) := dk_173 (dk_at dksX2_lost_1 14 rfl rfl)
abbrev cX2_state : ByteArray := prog_15_method_5_code
def yX2_state : MethodName := ⟨RX2, "state", "()I"⟩
def dkwX2_state_1 : List UInt8 := [132, 2, 1, 167, 255, 235, 27, 172]
abbrev dktX2_state_1 : List UInt8 := dkwX2_state_1 ++ []
def dkwX2_state_0 : List UInt8 := [3, 60, 3, 61, 28, 6, 162, 0, 22, 27, 28, 184, 0, 61, 42, 28, 182, 0, 65, 104, 96, 60]
abbrev dktX2_state_0 : List UInt8 := dkwX2_state_0 ++ dktX2_state_1
theorem dksX2_state_0 : cX2_state.data.toList.drop 0 = dktX2_state_0 := by decide +kernel
theorem dksX2_state_1 : cX2_state.data.toList.drop 22 = dktX2_state_1 := dk_seg dksX2_state_0 22 rfl rfl
theorem dX2_state_0 : decode cX2_state 0 = .ok (.iconst 0, 1) := dk_3 (dk_at dksX2_state_0 0 rfl rfl)
theorem dX2_state_1 : decode cX2_state 1 = .ok (.istore_n 1, 1) := dk_60 (dk_at dksX2_state_0 1 rfl rfl)
theorem dX2_state_2 : decode cX2_state 2 = .ok (.iconst 0, 1) := dk_3 (dk_at dksX2_state_0 2 rfl rfl)
theorem dX2_state_3 : decode cX2_state 3 = .ok (.istore_n 2, 1) := dk_61 (dk_at dksX2_state_0 3 rfl rfl)
theorem dX2_state_4 : decode cX2_state 4 = .ok (.iload_n 2, 1) := dk_28 (dk_at dksX2_state_0 4 rfl rfl)
theorem dX2_state_5 : decode cX2_state 5 = .ok (.iconst 3, 1) := dk_6 (dk_at dksX2_state_0 5 rfl rfl)
theorem dX2_state_6 : decode cX2_state 6 = .ok (.if_icmp .ge 22, 3) := dk_162 0 22 (dk_at dksX2_state_0 6 rfl rfl)
theorem dX2_state_9 : decode cX2_state 9 = .ok (.iload_n 1, 1) := dk_27 (dk_at dksX2_state_0 9 rfl rfl)
theorem dX2_state_10 : decode cX2_state 10 = .ok (.iload_n 2, 1) := dk_28 (dk_at dksX2_state_0 10 rfl rfl)
theorem dX2_state_11 : decode cX2_state 11 = .ok (.invokestatic 61, 3) := dk_184 0 61 (dk_at dksX2_state_0 11 rfl rfl)
theorem dX2_state_14 : decode cX2_state 14 = .ok (.aload_n 0, 1) := dk_42 (dk_at dksX2_state_0 14 rfl rfl)
theorem dX2_state_15 : decode cX2_state 15 = .ok (.iload_n 2, 1) := dk_28 (dk_at dksX2_state_0 15 rfl rfl)
theorem dX2_state_16 : decode cX2_state 16 = .ok (.invokevirtual 65, 3) := dk_182 0 65 (dk_at dksX2_state_0 16 rfl rfl)
theorem dX2_state_19 : decode cX2_state 19 = .ok (.imul, 1) := dk_104 (dk_at dksX2_state_0 19 rfl rfl)
theorem dX2_state_20 : decode cX2_state 20 = .ok (.iadd, 1) := dk_96 (dk_at dksX2_state_0 20 rfl rfl)
theorem dX2_state_21 : decode cX2_state 21 = .ok (.istore_n 1, 1) := dk_60 (dk_at dksX2_state_0 21 rfl rfl)
theorem dX2_state_22 : decode cX2_state 22 = .ok (.iinc 2 1, 3) := dk_132 2 1 (dk_at dksX2_state_1 0 rfl rfl)
theorem dX2_state_25 : decode cX2_state 25 = .ok (.goto (-21), 3) := dk_167 255 235 (dk_at dksX2_state_1 3 rfl rfl)
theorem dX2_state_28 : decode cX2_state 28 = .ok (.iload_n 1, 1) := dk_27 (dk_at dksX2_state_1 6 rfl rfl)
theorem dX2_state_29 : decode cX2_state 29 = .ok (.ireturn, 1) := dk_172 (dk_at dksX2_state_1 7 rfl rfl)
abbrev cX2_free : ByteArray := prog_15_method_4_code
def yX2_free : MethodName := ⟨RX2, "free", "(I)I"⟩
def dkwX2_free_0 : List UInt8 := [42, 180, 0, 9, 27, 46, 42, 180, 0, 15, 27, 46, 100, 172]
abbrev dktX2_free_0 : List UInt8 := dkwX2_free_0 ++ []
theorem dksX2_free_0 : cX2_free.data.toList.drop 0 = dktX2_free_0 := by decide +kernel
theorem dX2_free_0 : decode cX2_free 0 = .ok (.aload_n 0, 1) := dk_42 (dk_at dksX2_free_0 0 rfl rfl)
theorem dX2_free_1 : decode cX2_free 1 = .ok (.getfield 9, 3) := dk_180 0 9 (dk_at dksX2_free_0 1 rfl rfl)
theorem dX2_free_4 : decode cX2_free 4 = .ok (.iload_n 1, 1) := dk_27 (dk_at dksX2_free_0 4 rfl rfl)
theorem dX2_free_5 : decode cX2_free 5 = .ok (.iaload, 1) := dk_46 (dk_at dksX2_free_0 5 rfl rfl)
theorem dX2_free_6 : decode cX2_free 6 = .ok (.aload_n 0, 1) := dk_42 (dk_at dksX2_free_0 6 rfl rfl)
theorem dX2_free_7 : decode cX2_free 7 = .ok (.getfield 15, 3) := dk_180 0 15 (dk_at dksX2_free_0 7 rfl rfl)
theorem dX2_free_10 : decode cX2_free 10 = .ok (.iload_n 1, 1) := dk_27 (dk_at dksX2_free_0 10 rfl rfl)
theorem dX2_free_11 : decode cX2_free 11 = .ok (.iaload, 1) := dk_46 (dk_at dksX2_free_0 11 rfl rfl)
theorem dX2_free_12 : decode cX2_free 12 = .ok (.isub, 1) := dk_100 (dk_at dksX2_free_0 12 rfl rfl)
theorem dX2_free_13 : decode cX2_free 13 = .ok (.ireturn, 1) := dk_172 (dk_at dksX2_free_0 13 rfl rfl)
abbrev cX2_adds : ByteArray := prog_15_method_8_code
def yX2_adds : MethodName := ⟨RX2, "adds", "(IIII)V"⟩
def dkwX2_adds_2 : List UInt8 := [181, 0, 55, 177]
abbrev dktX2_adds_2 : List UInt8 := dkwX2_adds_2 ++ []
def dkwX2_adds_1 : List UInt8 := [42, 180, 0, 55, 29, 79, 42, 180, 0, 30, 42, 180, 0, 55, 21, 4, 79, 42, 89, 180, 0, 55, 4, 96]
abbrev dktX2_adds_1 : List UInt8 := dkwX2_adds_1 ++ dktX2_adds_2
def dkwX2_adds_0 : List UInt8 := [42, 180, 0, 21, 42, 180, 0, 55, 27, 79, 42, 180, 0, 24, 42, 180, 0, 55, 28, 79, 42, 180, 0, 27]
abbrev dktX2_adds_0 : List UInt8 := dkwX2_adds_0 ++ dktX2_adds_1
theorem dksX2_adds_0 : cX2_adds.data.toList.drop 0 = dktX2_adds_0 := by decide +kernel
theorem dksX2_adds_1 : cX2_adds.data.toList.drop 24 = dktX2_adds_1 := dk_seg dksX2_adds_0 24 rfl rfl
theorem dksX2_adds_2 : cX2_adds.data.toList.drop 48 = dktX2_adds_2 := dk_seg dksX2_adds_1 24 rfl rfl
theorem dX2_adds_0 : decode cX2_adds 0 = .ok (.aload_n 0, 1) := dk_42 (dk_at dksX2_adds_0 0 rfl rfl)
theorem dX2_adds_1 : decode cX2_adds 1 = .ok (.getfield 21, 3) := dk_180 0 21 (dk_at dksX2_adds_0 1 rfl rfl)
theorem dX2_adds_4 : decode cX2_adds 4 = .ok (.aload_n 0, 1) := dk_42 (dk_at dksX2_adds_0 4 rfl rfl)
theorem dX2_adds_5 : decode cX2_adds 5 = .ok (.getfield 55, 3) := dk_180 0 55 (dk_at dksX2_adds_0 5 rfl rfl)
theorem dX2_adds_8 : decode cX2_adds 8 = .ok (.iload_n 1, 1) := dk_27 (dk_at dksX2_adds_0 8 rfl rfl)
theorem dX2_adds_9 : decode cX2_adds 9 = .ok (.iastore, 1) := dk_79 (dk_at dksX2_adds_0 9 rfl rfl)
theorem dX2_adds_10 : decode cX2_adds 10 = .ok (.aload_n 0, 1) := dk_42 (dk_at dksX2_adds_0 10 rfl rfl)
theorem dX2_adds_11 : decode cX2_adds 11 = .ok (.getfield 24, 3) := dk_180 0 24 (dk_at dksX2_adds_0 11 rfl rfl)
theorem dX2_adds_14 : decode cX2_adds 14 = .ok (.aload_n 0, 1) := dk_42 (dk_at dksX2_adds_0 14 rfl rfl)
theorem dX2_adds_15 : decode cX2_adds 15 = .ok (.getfield 55, 3) := dk_180 0 55 (dk_at dksX2_adds_0 15 rfl rfl)
theorem dX2_adds_18 : decode cX2_adds 18 = .ok (.iload_n 2, 1) := dk_28 (dk_at dksX2_adds_0 18 rfl rfl)
theorem dX2_adds_19 : decode cX2_adds 19 = .ok (.iastore, 1) := dk_79 (dk_at dksX2_adds_0 19 rfl rfl)
theorem dX2_adds_20 : decode cX2_adds 20 = .ok (.aload_n 0, 1) := dk_42 (dk_at dksX2_adds_0 20 rfl rfl)
theorem dX2_adds_21 : decode cX2_adds 21 = .ok (.getfield 27, 3) := dk_180 0 27 (dk_at dksX2_adds_0 21 rfl rfl)
theorem dX2_adds_24 : decode cX2_adds 24 = .ok (.aload_n 0, 1) := dk_42 (dk_at dksX2_adds_1 0 rfl rfl)
theorem dX2_adds_25 : decode cX2_adds 25 = .ok (.getfield 55, 3) := dk_180 0 55 (dk_at dksX2_adds_1 1 rfl rfl)
theorem dX2_adds_28 : decode cX2_adds 28 = .ok (.iload_n 3, 1) := dk_29 (dk_at dksX2_adds_1 4 rfl rfl)
theorem dX2_adds_29 : decode cX2_adds 29 = .ok (.iastore, 1) := dk_79 (dk_at dksX2_adds_1 5 rfl rfl)
theorem dX2_adds_30 : decode cX2_adds 30 = .ok (.aload_n 0, 1) := dk_42 (dk_at dksX2_adds_1 6 rfl rfl)
theorem dX2_adds_31 : decode cX2_adds 31 = .ok (.getfield 30, 3) := dk_180 0 30 (dk_at dksX2_adds_1 7 rfl rfl)
theorem dX2_adds_34 : decode cX2_adds 34 = .ok (.aload_n 0, 1) := dk_42 (dk_at dksX2_adds_1 10 rfl rfl)
theorem dX2_adds_35 : decode cX2_adds 35 = .ok (.getfield 55, 3) := dk_180 0 55 (dk_at dksX2_adds_1 11 rfl rfl)
theorem dX2_adds_38 : decode cX2_adds 38 = .ok (.iload 4, 2) := dk_21 4 (dk_at dksX2_adds_1 14 rfl rfl)
theorem dX2_adds_40 : decode cX2_adds 40 = .ok (.iastore, 1) := dk_79 (dk_at dksX2_adds_1 16 rfl rfl)
theorem dX2_adds_41 : decode cX2_adds 41 = .ok (.aload_n 0, 1) := dk_42 (dk_at dksX2_adds_1 17 rfl rfl)
theorem dX2_adds_42 : decode cX2_adds 42 = .ok (.dup, 1) := dk_89 (dk_at dksX2_adds_1 18 rfl rfl)
theorem dX2_adds_43 : decode cX2_adds 43 = .ok (.getfield 55, 3) := dk_180 0 55 (dk_at dksX2_adds_1 19 rfl rfl)
theorem dX2_adds_46 : decode cX2_adds 46 = .ok (.iconst 1, 1) := dk_4 (dk_at dksX2_adds_1 22 rfl rfl)
theorem dX2_adds_47 : decode cX2_adds 47 = .ok (.iadd, 1) := dk_96 (dk_at dksX2_adds_1 23 rfl rfl)
theorem dX2_adds_48 : decode cX2_adds 48 = .ok (.putfield 55, 3) := dk_181 0 55 (dk_at dksX2_adds_2 0 rfl rfl)
theorem dX2_adds_51 : decode cX2_adds 51 = .ok (.return_, 1) := dk_177 (dk_at dksX2_adds_2 3 rfl rfl)
abbrev cX2_copied : ByteArray := prog_15_method_3_code
def yX2_copied : MethodName := ⟨RX2, "copied", "()LThreeSizes$Wall;"⟩
def dkwX2_copied_5 : List UInt8 := [42, 180, 0, 58, 181, 0, 58, 43, 42, 180, 0, 33, 181, 0, 33, 43, 176]
abbrev dktX2_copied_5 : List UInt8 := dkwX2_copied_5 ++ []
def dkwX2_copied_4 : List UInt8 := [42, 180, 0, 30, 3, 43, 180, 0, 30, 3, 16, 6, 184, 0, 49, 43, 42, 180, 0, 55, 181, 0, 55, 43]
abbrev dktX2_copied_4 : List UInt8 := dkwX2_copied_4 ++ dktX2_copied_5
def dkwX2_copied_3 : List UInt8 := [180, 0, 24, 3, 16, 6, 184, 0, 49, 42, 180, 0, 27, 3, 43, 180, 0, 27, 3, 16, 6, 184, 0, 49]
abbrev dktX2_copied_3 : List UInt8 := dkwX2_copied_3 ++ dktX2_copied_4
def dkwX2_copied_2 : List UInt8 := [184, 0, 49, 42, 180, 0, 21, 3, 43, 180, 0, 21, 3, 16, 6, 184, 0, 49, 42, 180, 0, 24, 3, 43]
abbrev dktX2_copied_2 : List UInt8 := dkwX2_copied_2 ++ dktX2_copied_3
def dkwX2_copied_1 : List UInt8 := [180, 0, 15, 3, 43, 180, 0, 15, 3, 6, 184, 0, 49, 42, 180, 0, 18, 3, 43, 180, 0, 18, 3, 6]
abbrev dktX2_copied_1 : List UInt8 := dkwX2_copied_1 ++ dktX2_copied_2
def dkwX2_copied_0 : List UInt8 := [187, 0, 10, 89, 183, 0, 48, 76, 42, 180, 0, 9, 3, 43, 180, 0, 9, 3, 6, 184, 0, 49, 42]
abbrev dktX2_copied_0 : List UInt8 := dkwX2_copied_0 ++ dktX2_copied_1
theorem dksX2_copied_0 : cX2_copied.data.toList.drop 0 = dktX2_copied_0 := by decide +kernel
theorem dksX2_copied_1 : cX2_copied.data.toList.drop 23 = dktX2_copied_1 := dk_seg dksX2_copied_0 23 rfl rfl
theorem dksX2_copied_2 : cX2_copied.data.toList.drop 47 = dktX2_copied_2 := dk_seg dksX2_copied_1 24 rfl rfl
theorem dksX2_copied_3 : cX2_copied.data.toList.drop 71 = dktX2_copied_3 := dk_seg dksX2_copied_2 24 rfl rfl
theorem dksX2_copied_4 : cX2_copied.data.toList.drop 95 = dktX2_copied_4 := dk_seg dksX2_copied_3 24 rfl rfl
theorem dksX2_copied_5 : cX2_copied.data.toList.drop 119 = dktX2_copied_5 := dk_seg dksX2_copied_4 24 rfl rfl
theorem dX2_copied_0 : decode cX2_copied 0 = .ok (.new 10, 3) := dk_187 0 10 (dk_at dksX2_copied_0 0 rfl rfl)
theorem dX2_copied_3 : decode cX2_copied 3 = .ok (.dup, 1) := dk_89 (dk_at dksX2_copied_0 3 rfl rfl)
theorem dX2_copied_4 : decode cX2_copied 4 = .ok (.invokespecial 48, 3) := dk_183 0 48 (dk_at dksX2_copied_0 4 rfl rfl)
theorem dX2_copied_7 : decode cX2_copied 7 = .ok (.astore_n 1, 1) := dk_76 (dk_at dksX2_copied_0 7 rfl rfl)
theorem dX2_copied_8 : decode cX2_copied 8 = .ok (.aload_n 0, 1) := dk_42 (dk_at dksX2_copied_0 8 rfl rfl)
theorem dX2_copied_9 : decode cX2_copied 9 = .ok (.getfield 9, 3) := dk_180 0 9 (dk_at dksX2_copied_0 9 rfl rfl)
theorem dX2_copied_12 : decode cX2_copied 12 = .ok (.iconst 0, 1) := dk_3 (dk_at dksX2_copied_0 12 rfl rfl)
theorem dX2_copied_13 : decode cX2_copied 13 = .ok (.aload_n 1, 1) := dk_43 (dk_at dksX2_copied_0 13 rfl rfl)
theorem dX2_copied_14 : decode cX2_copied 14 = .ok (.getfield 9, 3) := dk_180 0 9 (dk_at dksX2_copied_0 14 rfl rfl)
theorem dX2_copied_17 : decode cX2_copied 17 = .ok (.iconst 0, 1) := dk_3 (dk_at dksX2_copied_0 17 rfl rfl)
theorem dX2_copied_18 : decode cX2_copied 18 = .ok (.iconst 3, 1) := dk_6 (dk_at dksX2_copied_0 18 rfl rfl)
theorem dX2_copied_19 : decode cX2_copied 19 = .ok (.invokestatic 49, 3) := dk_184 0 49 (dk_at dksX2_copied_0 19 rfl rfl)
theorem dX2_copied_22 : decode cX2_copied 22 = .ok (.aload_n 0, 1) := dk_42 (dk_at dksX2_copied_0 22 rfl rfl)
theorem dX2_copied_23 : decode cX2_copied 23 = .ok (.getfield 15, 3) := dk_180 0 15 (dk_at dksX2_copied_1 0 rfl rfl)
theorem dX2_copied_26 : decode cX2_copied 26 = .ok (.iconst 0, 1) := dk_3 (dk_at dksX2_copied_1 3 rfl rfl)
theorem dX2_copied_27 : decode cX2_copied 27 = .ok (.aload_n 1, 1) := dk_43 (dk_at dksX2_copied_1 4 rfl rfl)
theorem dX2_copied_28 : decode cX2_copied 28 = .ok (.getfield 15, 3) := dk_180 0 15 (dk_at dksX2_copied_1 5 rfl rfl)
theorem dX2_copied_31 : decode cX2_copied 31 = .ok (.iconst 0, 1) := dk_3 (dk_at dksX2_copied_1 8 rfl rfl)
theorem dX2_copied_32 : decode cX2_copied 32 = .ok (.iconst 3, 1) := dk_6 (dk_at dksX2_copied_1 9 rfl rfl)
theorem dX2_copied_33 : decode cX2_copied 33 = .ok (.invokestatic 49, 3) := dk_184 0 49 (dk_at dksX2_copied_1 10 rfl rfl)
theorem dX2_copied_36 : decode cX2_copied 36 = .ok (.aload_n 0, 1) := dk_42 (dk_at dksX2_copied_1 13 rfl rfl)
theorem dX2_copied_37 : decode cX2_copied 37 = .ok (.getfield 18, 3) := dk_180 0 18 (dk_at dksX2_copied_1 14 rfl rfl)
theorem dX2_copied_40 : decode cX2_copied 40 = .ok (.iconst 0, 1) := dk_3 (dk_at dksX2_copied_1 17 rfl rfl)
theorem dX2_copied_41 : decode cX2_copied 41 = .ok (.aload_n 1, 1) := dk_43 (dk_at dksX2_copied_1 18 rfl rfl)
theorem dX2_copied_42 : decode cX2_copied 42 = .ok (.getfield 18, 3) := dk_180 0 18 (dk_at dksX2_copied_1 19 rfl rfl)
theorem dX2_copied_45 : decode cX2_copied 45 = .ok (.iconst 0, 1) := dk_3 (dk_at dksX2_copied_1 22 rfl rfl)
theorem dX2_copied_46 : decode cX2_copied 46 = .ok (.iconst 3, 1) := dk_6 (dk_at dksX2_copied_1 23 rfl rfl)
theorem dX2_copied_47 : decode cX2_copied 47 = .ok (.invokestatic 49, 3) := dk_184 0 49 (dk_at dksX2_copied_2 0 rfl rfl)
theorem dX2_copied_50 : decode cX2_copied 50 = .ok (.aload_n 0, 1) := dk_42 (dk_at dksX2_copied_2 3 rfl rfl)
theorem dX2_copied_51 : decode cX2_copied 51 = .ok (.getfield 21, 3) := dk_180 0 21 (dk_at dksX2_copied_2 4 rfl rfl)
theorem dX2_copied_54 : decode cX2_copied 54 = .ok (.iconst 0, 1) := dk_3 (dk_at dksX2_copied_2 7 rfl rfl)
theorem dX2_copied_55 : decode cX2_copied 55 = .ok (.aload_n 1, 1) := dk_43 (dk_at dksX2_copied_2 8 rfl rfl)
theorem dX2_copied_56 : decode cX2_copied 56 = .ok (.getfield 21, 3) := dk_180 0 21 (dk_at dksX2_copied_2 9 rfl rfl)
theorem dX2_copied_59 : decode cX2_copied 59 = .ok (.iconst 0, 1) := dk_3 (dk_at dksX2_copied_2 12 rfl rfl)
theorem dX2_copied_60 : decode cX2_copied 60 = .ok (.bipush 6, 2) := dk_16 6 (dk_at dksX2_copied_2 13 rfl rfl)
theorem dX2_copied_62 : decode cX2_copied 62 = .ok (.invokestatic 49, 3) := dk_184 0 49 (dk_at dksX2_copied_2 15 rfl rfl)
theorem dX2_copied_65 : decode cX2_copied 65 = .ok (.aload_n 0, 1) := dk_42 (dk_at dksX2_copied_2 18 rfl rfl)
theorem dX2_copied_66 : decode cX2_copied 66 = .ok (.getfield 24, 3) := dk_180 0 24 (dk_at dksX2_copied_2 19 rfl rfl)
theorem dX2_copied_69 : decode cX2_copied 69 = .ok (.iconst 0, 1) := dk_3 (dk_at dksX2_copied_2 22 rfl rfl)
theorem dX2_copied_70 : decode cX2_copied 70 = .ok (.aload_n 1, 1) := dk_43 (dk_at dksX2_copied_2 23 rfl rfl)
theorem dX2_copied_71 : decode cX2_copied 71 = .ok (.getfield 24, 3) := dk_180 0 24 (dk_at dksX2_copied_3 0 rfl rfl)
theorem dX2_copied_74 : decode cX2_copied 74 = .ok (.iconst 0, 1) := dk_3 (dk_at dksX2_copied_3 3 rfl rfl)
theorem dX2_copied_75 : decode cX2_copied 75 = .ok (.bipush 6, 2) := dk_16 6 (dk_at dksX2_copied_3 4 rfl rfl)
theorem dX2_copied_77 : decode cX2_copied 77 = .ok (.invokestatic 49, 3) := dk_184 0 49 (dk_at dksX2_copied_3 6 rfl rfl)
theorem dX2_copied_80 : decode cX2_copied 80 = .ok (.aload_n 0, 1) := dk_42 (dk_at dksX2_copied_3 9 rfl rfl)
theorem dX2_copied_81 : decode cX2_copied 81 = .ok (.getfield 27, 3) := dk_180 0 27 (dk_at dksX2_copied_3 10 rfl rfl)
theorem dX2_copied_84 : decode cX2_copied 84 = .ok (.iconst 0, 1) := dk_3 (dk_at dksX2_copied_3 13 rfl rfl)
theorem dX2_copied_85 : decode cX2_copied 85 = .ok (.aload_n 1, 1) := dk_43 (dk_at dksX2_copied_3 14 rfl rfl)
theorem dX2_copied_86 : decode cX2_copied 86 = .ok (.getfield 27, 3) := dk_180 0 27 (dk_at dksX2_copied_3 15 rfl rfl)
theorem dX2_copied_89 : decode cX2_copied 89 = .ok (.iconst 0, 1) := dk_3 (dk_at dksX2_copied_3 18 rfl rfl)
theorem dX2_copied_90 : decode cX2_copied 90 = .ok (.bipush 6, 2) := dk_16 6 (dk_at dksX2_copied_3 19 rfl rfl)
theorem dX2_copied_92 : decode cX2_copied 92 = .ok (.invokestatic 49, 3) := dk_184 0 49 (dk_at dksX2_copied_3 21 rfl rfl)
theorem dX2_copied_95 : decode cX2_copied 95 = .ok (.aload_n 0, 1) := dk_42 (dk_at dksX2_copied_4 0 rfl rfl)
theorem dX2_copied_96 : decode cX2_copied 96 = .ok (.getfield 30, 3) := dk_180 0 30 (dk_at dksX2_copied_4 1 rfl rfl)
theorem dX2_copied_99 : decode cX2_copied 99 = .ok (.iconst 0, 1) := dk_3 (dk_at dksX2_copied_4 4 rfl rfl)
theorem dX2_copied_100 : decode cX2_copied 100 = .ok (.aload_n 1, 1) := dk_43 (dk_at dksX2_copied_4 5 rfl rfl)
theorem dX2_copied_101 : decode cX2_copied 101 = .ok (.getfield 30, 3) := dk_180 0 30 (dk_at dksX2_copied_4 6 rfl rfl)
theorem dX2_copied_104 : decode cX2_copied 104 = .ok (.iconst 0, 1) := dk_3 (dk_at dksX2_copied_4 9 rfl rfl)
theorem dX2_copied_105 : decode cX2_copied 105 = .ok (.bipush 6, 2) := dk_16 6 (dk_at dksX2_copied_4 10 rfl rfl)
theorem dX2_copied_107 : decode cX2_copied 107 = .ok (.invokestatic 49, 3) := dk_184 0 49 (dk_at dksX2_copied_4 12 rfl rfl)
theorem dX2_copied_110 : decode cX2_copied 110 = .ok (.aload_n 1, 1) := dk_43 (dk_at dksX2_copied_4 15 rfl rfl)
theorem dX2_copied_111 : decode cX2_copied 111 = .ok (.aload_n 0, 1) := dk_42 (dk_at dksX2_copied_4 16 rfl rfl)
theorem dX2_copied_112 : decode cX2_copied 112 = .ok (.getfield 55, 3) := dk_180 0 55 (dk_at dksX2_copied_4 17 rfl rfl)
theorem dX2_copied_115 : decode cX2_copied 115 = .ok (.putfield 55, 3) := dk_181 0 55 (dk_at dksX2_copied_4 20 rfl rfl)
theorem dX2_copied_118 : decode cX2_copied 118 = .ok (.aload_n 1, 1) := dk_43 (dk_at dksX2_copied_4 23 rfl rfl)
theorem dX2_copied_119 : decode cX2_copied 119 = .ok (.aload_n 0, 1) := dk_42 (dk_at dksX2_copied_5 0 rfl rfl)
theorem dX2_copied_120 : decode cX2_copied 120 = .ok (.getfield 58, 3) := dk_180 0 58 (dk_at dksX2_copied_5 1 rfl rfl)
theorem dX2_copied_123 : decode cX2_copied 123 = .ok (.putfield 58, 3) := dk_181 0 58 (dk_at dksX2_copied_5 4 rfl rfl)
theorem dX2_copied_126 : decode cX2_copied 126 = .ok (.aload_n 1, 1) := dk_43 (dk_at dksX2_copied_5 7 rfl rfl)
theorem dX2_copied_127 : decode cX2_copied 127 = .ok (.aload_n 0, 1) := dk_42 (dk_at dksX2_copied_5 8 rfl rfl)
theorem dX2_copied_128 : decode cX2_copied 128 = .ok (.getfield 33, 3) := dk_180 0 33 (dk_at dksX2_copied_5 9 rfl rfl)
theorem dX2_copied_131 : decode cX2_copied 131 = .ok (.putfield 33, 3) := dk_181 0 33 (dk_at dksX2_copied_5 12 rfl rfl)
theorem dX2_copied_134 : decode cX2_copied 134 = .ok (.aload_n 1, 1) := dk_43 (dk_at dksX2_copied_5 15 rfl rfl)
theorem dX2_copied_135 : decode cX2_copied 135 = .ok (.areturn, 1) := dk_176 (dk_at dksX2_copied_5 16 rfl rfl)
theorem q68 : (Jvm.Cond.initialized "ThreeSizes$Wall") ∈ lw_all := lw_g (lw_at lw_m1 3 rfl) rfl
theorem q117 : (Jvm.Cond.instantiable "ThreeSizes$Wall" (11 : Nat)) ∈ lw_all := lw_g (lw_at lw_m1 52 rfl) rfl
theorem q119 : (Jvm.Cond.instanceMethod ({ cls := "ThreeSizes$Wall", name := "<init>", desc := "()V" } : Jvm.MethodName)) ∈ lw_all := lw_g (lw_at lw_m1 54 rfl) rfl
theorem q120 : (Jvm.Cond.code ({ cls := "ThreeSizes$Wall", name := "<init>", desc := "()V" } : Jvm.MethodName) prog_15_method_1_code (1 : Nat) (Option.none : Option Jvm.ClassFile.FieldType)) ∈ lw_all := lw_g (lw_at lw_m1 55 rfl) rfl
theorem q121 : (Jvm.Cond.methodLink "ThreeSizes$Wall" (3 : Nat) ({ cls := "java/lang/Object", name := "<init>", desc := "()V" } : Jvm.MethodName)) ∈ lw_all := lw_g (lw_at lw_m1 56 rfl) rfl
theorem q122 : (Jvm.Cond.fieldLink "ThreeSizes$Wall" (9 : Nat) "ThreeSizes$Wall" "boxes" "[I") ∈ lw_all := lw_g (lw_at lw_m1 57 rfl) rfl
theorem q126 : (Jvm.Cond.fieldLink "ThreeSizes$Wall" (15 : Nat) "ThreeSizes$Wall" "full" "[I") ∈ lw_all := lw_g (lw_at lw_m1 61 rfl) rfl
theorem q130 : (Jvm.Cond.fieldLink "ThreeSizes$Wall" (18 : Nat) "ThreeSizes$Wall" "goes" "[I") ∈ lw_all := lw_g (lw_at lw_m1 65 rfl) rfl
theorem q135 : (Jvm.Cond.fieldLink "ThreeSizes$Wall" (21 : Nat) "ThreeSizes$Wall" "need" "[I") ∈ lw_all := lw_g (lw_at lw_m1 70 rfl) rfl
theorem q138 : (Jvm.Cond.fieldLink "ThreeSizes$Wall" (24 : Nat) "ThreeSizes$Wall" "comes" "[I") ∈ lw_all := lw_g (lw_at lw_m1 73 rfl) rfl
theorem q142 : (Jvm.Cond.fieldLink "ThreeSizes$Wall" (27 : Nat) "ThreeSizes$Wall" "worth" "[I") ∈ lw_all := lw_g (lw_at lw_m1 77 rfl) rfl
theorem q147 : (Jvm.Cond.fieldLink "ThreeSizes$Wall" (30 : Nat) "ThreeSizes$Wall" "back" "[I") ∈ lw_all := lw_g (lw_at lw_m1 82 rfl) rfl
theorem q150 : (Jvm.Cond.fieldLink "ThreeSizes$Wall" (37 : Nat) "ThreeSizes$Wall" "rows" "[[J") ∈ lw_all := lw_g (lw_at lw_m1 85 rfl) rfl
theorem q151 : (Jvm.Cond.fieldLink "ThreeSizes$Wall" (55 : Nat) "ThreeSizes$Wall" "sorts" "I") ∈ lw_all := lw_g (lw_at lw_m1 86 rfl) rfl
theorem q157 : (Jvm.Cond.fieldLink "ThreeSizes$Wall" (58 : Nat) "ThreeSizes$Wall" "near" "I") ∈ lw_all := lw_g (lw_at lw_m1 92 rfl) rfl
theorem q161 : (Jvm.Cond.fieldLink "ThreeSizes$Wall" (33 : Nat) "ThreeSizes$Wall" "way" "I") ∈ lw_all := lw_g (lw_at lw_m1 96 rfl) rfl
theorem q165 : (Jvm.Cond.laysFinal "ThreeSizes$Wall" "ThreeSizes$Wall" "boxes" "[I") ∈ lw_all := lw_g (lw_at lw_m1 100 rfl) rfl
theorem q166 : (Jvm.Cond.soleField "ThreeSizes$Wall" "boxes") ∈ lw_all := lw_g (lw_at lw_m1 101 rfl) rfl
theorem q167 : (Jvm.Cond.laysFinal "ThreeSizes$Wall" "ThreeSizes$Wall" "full" "[I") ∈ lw_all := lw_g (lw_at lw_m1 102 rfl) rfl
theorem q168 : (Jvm.Cond.soleField "ThreeSizes$Wall" "full") ∈ lw_all := lw_g (lw_at lw_m1 103 rfl) rfl
theorem q169 : (Jvm.Cond.laysFinal "ThreeSizes$Wall" "ThreeSizes$Wall" "goes" "[I") ∈ lw_all := lw_g (lw_at lw_m1 104 rfl) rfl
theorem q170 : (Jvm.Cond.soleField "ThreeSizes$Wall" "goes") ∈ lw_all := lw_g (lw_at lw_m1 105 rfl) rfl
theorem q171 : (Jvm.Cond.laysFinal "ThreeSizes$Wall" "ThreeSizes$Wall" "need" "[I") ∈ lw_all := lw_g (lw_at lw_m1 106 rfl) rfl
theorem q172 : (Jvm.Cond.soleField "ThreeSizes$Wall" "need") ∈ lw_all := lw_g (lw_at lw_m1 107 rfl) rfl
theorem q173 : (Jvm.Cond.laysFinal "ThreeSizes$Wall" "ThreeSizes$Wall" "comes" "[I") ∈ lw_all := lw_g (lw_at lw_m1 108 rfl) rfl
theorem q174 : (Jvm.Cond.soleField "ThreeSizes$Wall" "comes") ∈ lw_all := lw_g (lw_at lw_m1 109 rfl) rfl
theorem q175 : (Jvm.Cond.laysFinal "ThreeSizes$Wall" "ThreeSizes$Wall" "worth" "[I") ∈ lw_all := lw_g (lw_at lw_m1 110 rfl) rfl
theorem q176 : (Jvm.Cond.soleField "ThreeSizes$Wall" "worth") ∈ lw_all := lw_g (lw_at lw_m1 111 rfl) rfl
theorem q177 : (Jvm.Cond.laysFinal "ThreeSizes$Wall" "ThreeSizes$Wall" "back" "[I") ∈ lw_all := lw_g (lw_at lw_m1 112 rfl) rfl
theorem q178 : (Jvm.Cond.soleField "ThreeSizes$Wall" "back") ∈ lw_all := lw_g (lw_at lw_m1 113 rfl) rfl
theorem q179 : (Jvm.Cond.lays "ThreeSizes$Wall" "ThreeSizes$Wall" "rows" "[[J") ∈ lw_all := lw_g (lw_at lw_m1 114 rfl) rfl
theorem q180 : (Jvm.Cond.soleField "ThreeSizes$Wall" "rows") ∈ lw_all := lw_g (lw_at lw_m1 115 rfl) rfl
theorem q181 : (Jvm.Cond.lays "ThreeSizes$Wall" "ThreeSizes$Wall" "sorts" "I") ∈ lw_all := lw_g (lw_at lw_m1 116 rfl) rfl
theorem q182 : (Jvm.Cond.soleField "ThreeSizes$Wall" "sorts") ∈ lw_all := lw_g (lw_at lw_m1 117 rfl) rfl
theorem q183 : (Jvm.Cond.lays "ThreeSizes$Wall" "ThreeSizes$Wall" "near" "I") ∈ lw_all := lw_g (lw_at lw_m1 118 rfl) rfl
theorem q184 : (Jvm.Cond.soleField "ThreeSizes$Wall" "near") ∈ lw_all := lw_g (lw_at lw_m1 119 rfl) rfl
theorem q185 : (Jvm.Cond.lays "ThreeSizes$Wall" "ThreeSizes$Wall" "way" "I") ∈ lw_all := lw_g (lw_at lw_m1 120 rfl) rfl
theorem q186 : (Jvm.Cond.soleField "ThreeSizes$Wall" "way") ∈ lw_all := lw_g (lw_at lw_m1 121 rfl) rfl
theorem q187 : (Jvm.Cond.superclass "ThreeSizes$Wall" "java/lang/Object") ∈ lw_all := lw_g (lw_at lw_m1 122 rfl) rfl
theorem q621 : (Jvm.Cond.instanceMethod ({ cls := "ThreeSizes$Wall", name := "all", desc := "()I" } : Jvm.MethodName)) ∈ lw_all := lw_g (lw_at lw_m3 76 rfl) rfl
theorem q622 : (Jvm.Cond.selects "ThreeSizes$Wall" ({ cls := "ThreeSizes$Wall", name := "all", desc := "()I" } : Jvm.MethodName) ({ cls := "ThreeSizes$Wall", name := "all", desc := "()I" } : Jvm.MethodName)) ∈ lw_all := lw_g (lw_at lw_m3 77 rfl) rfl
theorem q623 : (Jvm.Cond.code ({ cls := "ThreeSizes$Wall", name := "all", desc := "()I" } : Jvm.MethodName) prog_15_method_7_code (3 : Nat) (Option.some Jvm.ClassFile.FieldType.int)) ∈ lw_all := lw_g (lw_at lw_m3 78 rfl) rfl
theorem q647 : (Jvm.Cond.instanceMethod ({ cls := "ThreeSizes$Wall", name := "row", desc := "(I)[J" } : Jvm.MethodName)) ∈ lw_all := lw_g (lw_at lw_m3 102 rfl) rfl
theorem q648 : (Jvm.Cond.selects "ThreeSizes$Wall" ({ cls := "ThreeSizes$Wall", name := "row", desc := "(I)[J" } : Jvm.MethodName) ({ cls := "ThreeSizes$Wall", name := "row", desc := "(I)[J" } : Jvm.MethodName)) ∈ lw_all := lw_g (lw_at lw_m3 103 rfl) rfl
theorem q649 : (Jvm.Cond.code ({ cls := "ThreeSizes$Wall", name := "row", desc := "(I)[J" } : Jvm.MethodName) prog_15_method_2_code (2 : Nat) (Option.some (Jvm.ClassFile.FieldType.array Jvm.ClassFile.FieldType.long))) ∈ lw_all := lw_g (lw_at lw_m3 104 rfl) rfl
theorem q650 : (Jvm.Cond.classLink "ThreeSizes$Wall" (41 : Nat) "[[J") ∈ lw_all := lw_g (lw_at lw_m3 105 rfl) rfl
theorem q652 : (Jvm.Cond.methodLink "ThreeSizes$Wall" (42 : Nat) ({ cls := "java/util/Arrays", name := "fill", desc := "([JJ)V" } : Jvm.MethodName)) ∈ lw_all := lw_g (lw_at lw_m3 107 rfl) rfl
theorem q656 : (Jvm.Cond.instanceMethod ({ cls := "ThreeSizes$Wall", name := "isState", desc := "(I)Z" } : Jvm.MethodName)) ∈ lw_all := lw_g (lw_at lw_m3 111 rfl) rfl
theorem q657 : (Jvm.Cond.selects "ThreeSizes$Wall" ({ cls := "ThreeSizes$Wall", name := "isState", desc := "(I)Z" } : Jvm.MethodName) ({ cls := "ThreeSizes$Wall", name := "isState", desc := "(I)Z" } : Jvm.MethodName)) ∈ lw_all := lw_g (lw_at lw_m3 112 rfl) rfl
theorem q658 : (Jvm.Cond.code ({ cls := "ThreeSizes$Wall", name := "isState", desc := "(I)Z" } : Jvm.MethodName) prog_15_method_6_code (4 : Nat) (Option.some Jvm.ClassFile.FieldType.boolean)) ∈ lw_all := lw_g (lw_at lw_m3 113 rfl) rfl
theorem q659 : (Jvm.Cond.methodLinkNest "ThreeSizes$Wall" (68 : Nat) ({ cls := "ThreeSizes", name := "isIn", desc := "(III)Z" } : Jvm.MethodName) "ThreeSizes") ∈ lw_tbl := lw_at lw_m3 114 rfl
theorem q660 : (Jvm.Cond.methodLinkNest "ThreeSizes$Wall" (72 : Nat) ({ cls := "ThreeSizes", name := "freeOf", desc := "(II)I" } : Jvm.MethodName) "ThreeSizes") ∈ lw_tbl := lw_at lw_m3 115 rfl
theorem q684 : (Jvm.Cond.instanceMethod ({ cls := "ThreeSizes$Wall", name := "fits", desc := "(III)Z" } : Jvm.MethodName)) ∈ lw_all := lw_g (lw_at lw_m3 139 rfl) rfl
theorem q685 : (Jvm.Cond.selects "ThreeSizes$Wall" ({ cls := "ThreeSizes$Wall", name := "fits", desc := "(III)Z" } : Jvm.MethodName) ({ cls := "ThreeSizes$Wall", name := "fits", desc := "(III)Z" } : Jvm.MethodName)) ∈ lw_all := lw_g (lw_at lw_m3 140 rfl) rfl
theorem q686 : (Jvm.Cond.code ({ cls := "ThreeSizes$Wall", name := "fits", desc := "(III)Z" } : Jvm.MethodName) prog_15_method_9_code (4 : Nat) (Option.some Jvm.ClassFile.FieldType.boolean)) ∈ lw_all := lw_g (lw_at lw_m3 141 rfl) rfl
theorem q688 : (Jvm.Cond.instanceMethod ({ cls := "ThreeSizes$Wall", name := "brings", desc := "(III[J)J" } : Jvm.MethodName)) ∈ lw_all := lw_g (lw_at lw_m3 143 rfl) rfl
theorem q689 : (Jvm.Cond.selects "ThreeSizes$Wall" ({ cls := "ThreeSizes$Wall", name := "brings", desc := "(III[J)J" } : Jvm.MethodName) ({ cls := "ThreeSizes$Wall", name := "brings", desc := "(III[J)J" } : Jvm.MethodName)) ∈ lw_all := lw_g (lw_at lw_m3 144 rfl) rfl
theorem q690 : (Jvm.Cond.code ({ cls := "ThreeSizes$Wall", name := "brings", desc := "(III[J)J" } : Jvm.MethodName) prog_15_method_11_code (5 : Nat) (Option.some Jvm.ClassFile.FieldType.long)) ∈ lw_all := lw_g (lw_at lw_m3 145 rfl) rfl
theorem q691 : (Jvm.Cond.methodLink "ThreeSizes$Wall" (78 : Nat) ({ cls := "ThreeSizes$Wall", name := "lost", desc := "(I)J" } : Jvm.MethodName)) ∈ lw_all := lw_g (lw_at lw_m3 146 rfl) rfl
theorem q692 : (Jvm.Cond.instanceMethod ({ cls := "ThreeSizes$Wall", name := "lost", desc := "(I)J" } : Jvm.MethodName)) ∈ lw_all := lw_g (lw_at lw_m3 147 rfl) rfl
theorem q693 : (Jvm.Cond.selects "ThreeSizes$Wall" ({ cls := "ThreeSizes$Wall", name := "lost", desc := "(I)J" } : Jvm.MethodName) ({ cls := "ThreeSizes$Wall", name := "lost", desc := "(I)J" } : Jvm.MethodName)) ∈ lw_all := lw_g (lw_at lw_m3 148 rfl) rfl
theorem q694 : (Jvm.Cond.code ({ cls := "ThreeSizes$Wall", name := "lost", desc := "(I)J" } : Jvm.MethodName) prog_15_method_10_code (2 : Nat) (Option.some Jvm.ClassFile.FieldType.long)) ∈ lw_all := lw_g (lw_at lw_m3 149 rfl) rfl
theorem q695 : (Jvm.Cond.constantLong "ThreeSizes$Wall" (76 : Nat) (100000 : Int64)) ∈ lw_all := lw_g (lw_at lw_m3 150 rfl) rfl
theorem q696 : (Jvm.Cond.constantLong "ThreeSizes$Wall" (82 : Nat) (1000000 : Int64)) ∈ lw_all := lw_g (lw_at lw_m3 151 rfl) rfl
theorem q697 : (Jvm.Cond.methodLinkNest "ThreeSizes$Wall" (61 : Nat) ({ cls := "ThreeSizes", name := "step", desc := "(I)I" } : Jvm.MethodName) "ThreeSizes") ∈ lw_tbl := lw_at lw_m3 152 rfl
theorem q743 : (Jvm.Cond.instanceMethod ({ cls := "ThreeSizes$Wall", name := "state", desc := "()I" } : Jvm.MethodName)) ∈ lw_all := lw_g (lw_at lw_m3 198 rfl) rfl
theorem q744 : (Jvm.Cond.selects "ThreeSizes$Wall" ({ cls := "ThreeSizes$Wall", name := "state", desc := "()I" } : Jvm.MethodName) ({ cls := "ThreeSizes$Wall", name := "state", desc := "()I" } : Jvm.MethodName)) ∈ lw_all := lw_g (lw_at lw_m3 199 rfl) rfl
theorem q745 : (Jvm.Cond.code ({ cls := "ThreeSizes$Wall", name := "state", desc := "()I" } : Jvm.MethodName) prog_15_method_5_code (3 : Nat) (Option.some Jvm.ClassFile.FieldType.int)) ∈ lw_all := lw_g (lw_at lw_m3 200 rfl) rfl
theorem q746 : (Jvm.Cond.methodLink "ThreeSizes$Wall" (65 : Nat) ({ cls := "ThreeSizes$Wall", name := "free", desc := "(I)I" } : Jvm.MethodName)) ∈ lw_all := lw_g (lw_at lw_m3 201 rfl) rfl
theorem q747 : (Jvm.Cond.instanceMethod ({ cls := "ThreeSizes$Wall", name := "free", desc := "(I)I" } : Jvm.MethodName)) ∈ lw_all := lw_g (lw_at lw_m3 202 rfl) rfl
theorem q748 : (Jvm.Cond.selects "ThreeSizes$Wall" ({ cls := "ThreeSizes$Wall", name := "free", desc := "(I)I" } : Jvm.MethodName) ({ cls := "ThreeSizes$Wall", name := "free", desc := "(I)I" } : Jvm.MethodName)) ∈ lw_all := lw_g (lw_at lw_m3 203 rfl) rfl
theorem q749 : (Jvm.Cond.code ({ cls := "ThreeSizes$Wall", name := "free", desc := "(I)I" } : Jvm.MethodName) prog_15_method_4_code (2 : Nat) (Option.some Jvm.ClassFile.FieldType.int)) ∈ lw_all := lw_g (lw_at lw_m3 204 rfl) rfl
theorem q783 : (Jvm.Cond.instanceMethod ({ cls := "ThreeSizes$Wall", name := "adds", desc := "(IIII)V" } : Jvm.MethodName)) ∈ lw_all := lw_g (lw_at lw_m3 238 rfl) rfl
theorem q784 : (Jvm.Cond.selects "ThreeSizes$Wall" ({ cls := "ThreeSizes$Wall", name := "adds", desc := "(IIII)V" } : Jvm.MethodName) ({ cls := "ThreeSizes$Wall", name := "adds", desc := "(IIII)V" } : Jvm.MethodName)) ∈ lw_all := lw_g (lw_at lw_m3 239 rfl) rfl
theorem q785 : (Jvm.Cond.code ({ cls := "ThreeSizes$Wall", name := "adds", desc := "(IIII)V" } : Jvm.MethodName) prog_15_method_8_code (5 : Nat) (Option.none : Option Jvm.ClassFile.FieldType)) ∈ lw_all := lw_g (lw_at lw_m4 0 rfl) rfl
theorem q822 : (Jvm.Cond.instanceMethod ({ cls := "ThreeSizes$Wall", name := "copied", desc := "()LThreeSizes$Wall;" } : Jvm.MethodName)) ∈ lw_all := lw_g (lw_at lw_m4 37 rfl) rfl
theorem q823 : (Jvm.Cond.selects "ThreeSizes$Wall" ({ cls := "ThreeSizes$Wall", name := "copied", desc := "()LThreeSizes$Wall;" } : Jvm.MethodName) ({ cls := "ThreeSizes$Wall", name := "copied", desc := "()LThreeSizes$Wall;" } : Jvm.MethodName)) ∈ lw_all := lw_g (lw_at lw_m4 38 rfl) rfl
theorem q824 : (Jvm.Cond.code ({ cls := "ThreeSizes$Wall", name := "copied", desc := "()LThreeSizes$Wall;" } : Jvm.MethodName) prog_15_method_3_code (2 : Nat) (Option.some (Jvm.ClassFile.FieldType.object "ThreeSizes$Wall"))) ∈ lw_all := lw_g (lw_at lw_m4 39 rfl) rfl
theorem q825 : (Jvm.Cond.classLink "ThreeSizes$Wall" (10 : Nat) "ThreeSizes$Wall") ∈ lw_all := lw_g (lw_at lw_m4 40 rfl) rfl
theorem q826 : (Jvm.Cond.methodLink "ThreeSizes$Wall" (48 : Nat) ({ cls := "ThreeSizes$Wall", name := "<init>", desc := "()V" } : Jvm.MethodName)) ∈ lw_all := lw_g (lw_at lw_m4 41 rfl) rfl
theorem q827 : (Jvm.Cond.methodLink "ThreeSizes$Wall" (49 : Nat) ({ cls := "java/lang/System", name := "arraycopy", desc := "(Ljava/lang/Object;ILjava/lang/Object;II)V" } : Jvm.MethodName)) ∈ lw_all := lw_g (lw_at lw_m4 42 rfl) rfl
theorem in_X2 : ∀ w ∈ wsX20, w ∈ lw_all := lw_in wsX20 [165, 167, 169, 171, 173, 175, 177, 179, 181, 183, 185] (by decide +kernel) (by decide +kernel)
/-! ThreeSizes$Sheet -/
set_option maxRecDepth 100000
def RX3 : String := "ThreeSizes$Sheet"
def TX3 : u_T := fun k => match k with
  | _ => ("ThreeSizes$Sheet", "held", "Ljava/lang/Object;", false)
def tyX3 : Nat → FieldType := fun k => match k with
  | _ => .object "java/lang/Object"
abbrev wsX30 : List Cond := u_ws RX3 TX3 1
theorem nmX3 : ∀ a, a < 1 → ∀ b, b < 1 → a ≠ b → (TX3 a).2.1 ≠ (TX3 b).2.1 := by decide +kernel
theorem tyX3_ok : ∀ k, k < 1 → parseFieldDescriptor (TX3 k).2.2.1 = some (tyX3 k) := by decide +kernel
abbrev cX3_init : ByteArray := prog_13_method_1_code
def yX3_init : MethodName := ⟨RX3, "<init>", "()V"⟩
theorem dX3_init_0 : decode cX3_init 0 = .ok (.aload_n 0, 1) := by decide +kernel
theorem dX3_init_1 : decode cX3_init 1 = .ok (.invokespecial 1, 3) := by decide +kernel
theorem dX3_init_4 : decode cX3_init 4 = .ok (.return_, 1) := by decide +kernel
theorem q69 : (Jvm.Cond.initialized "ThreeSizes$Sheet") ∈ lw_all := lw_g (lw_at lw_m1 4 rfl) rfl
theorem q224 : (Jvm.Cond.instantiable "ThreeSizes$Sheet" (1 : Nat)) ∈ lw_all := lw_g (lw_at lw_m1 159 rfl) rfl
theorem q226 : (Jvm.Cond.instanceMethod ({ cls := "ThreeSizes$Sheet", name := "<init>", desc := "()V" } : Jvm.MethodName)) ∈ lw_all := lw_g (lw_at lw_m1 161 rfl) rfl
theorem q227 : (Jvm.Cond.code ({ cls := "ThreeSizes$Sheet", name := "<init>", desc := "()V" } : Jvm.MethodName) prog_13_method_1_code (1 : Nat) (Option.none : Option Jvm.ClassFile.FieldType)) ∈ lw_all := lw_g (lw_at lw_m1 162 rfl) rfl
theorem q228 : (Jvm.Cond.methodLink "ThreeSizes$Sheet" (1 : Nat) ({ cls := "java/lang/Object", name := "<init>", desc := "()V" } : Jvm.MethodName)) ∈ lw_all := lw_g (lw_at lw_m1 163 rfl) rfl
theorem q230 : (Jvm.Cond.lays "ThreeSizes$Sheet" "ThreeSizes$Sheet" "held" "Ljava/lang/Object;") ∈ lw_all := lw_g (lw_at lw_m1 165 rfl) rfl
theorem q231 : (Jvm.Cond.soleField "ThreeSizes$Sheet" "held") ∈ lw_all := lw_g (lw_at lw_m1 166 rfl) rfl
theorem q232 : (Jvm.Cond.superclass "ThreeSizes$Sheet" "java/lang/Object") ∈ lw_all := lw_g (lw_at lw_m1 167 rfl) rfl
theorem in_X3 : ∀ w ∈ wsX30, w ∈ lw_all := lw_in wsX30 [230] (by decide +kernel) (by decide +kernel)
/-! ThreeSizes$Refused -/
set_option maxRecDepth 100000
def RX5 : String := "ThreeSizes$Refused"
def TX5 : u_T := fun k => match k with
  | 0 => ("java/lang/Throwable", "cause", "Ljava/lang/Throwable;", false)
  | 1 => ("java/lang/Throwable", "stackTrace", "[Ljava/lang/StackTraceElement;", false)
  | 2 => ("java/lang/Throwable", "suppressedExceptions", "Ljava/util/List;", false)
  | 3 => ("java/lang/Throwable", "detailMessage", "Ljava/lang/String;", false)
  | 4 => ("java/lang/Throwable", "backtrace", "Ljava/lang/Object;", false)
  | 5 => ("java/lang/Throwable", "depth", "I", false)
  | _ => ("ThreeSizes$Refused", "by", "I", true)
def tyX5 : Nat → FieldType := fun k => match k with
  | 0 => .object "java/lang/Throwable"
  | 1 => .array (.object "java/lang/StackTraceElement")
  | 2 => .object "java/util/List"
  | 3 => .object "java/lang/String"
  | 4 => .object "java/lang/Object"
  | 5 => .int
  | _ => .int
abbrev wsX50 : List Cond := u_ws RX5 TX5 7
theorem nmX5 : ∀ a, a < 7 → ∀ b, b < 7 → a ≠ b → (TX5 a).2.1 ≠ (TX5 b).2.1 := by decide +kernel
theorem tyX5_ok : ∀ k, k < 7 → parseFieldDescriptor (TX5 k).2.2.1 = some (tyX5 k) := by decide +kernel
abbrev cX5_init : ByteArray := prog_10_method_1_code
def yX5_init : MethodName := ⟨RX5, "<init>", "(I)V"⟩
def dkwX5_init_0 : List UInt8 := [42, 1, 1, 3, 3, 183, 0, 1, 42, 27, 181, 0, 7, 177]
abbrev dktX5_init_0 : List UInt8 := dkwX5_init_0 ++ []
theorem dksX5_init_0 : cX5_init.data.toList.drop 0 = dktX5_init_0 := by decide +kernel
theorem dX5_init_0 : decode cX5_init 0 = .ok (.aload_n 0, 1) := dk_42 (dk_at dksX5_init_0 0 rfl rfl)
theorem dX5_init_1 : decode cX5_init 1 = .ok (.aconst_null, 1) := dk_1 (dk_at dksX5_init_0 1 rfl rfl)
theorem dX5_init_2 : decode cX5_init 2 = .ok (.aconst_null, 1) := dk_1 (dk_at dksX5_init_0 2 rfl rfl)
theorem dX5_init_3 : decode cX5_init 3 = .ok (.iconst 0, 1) := dk_3 (dk_at dksX5_init_0 3 rfl rfl)
theorem dX5_init_4 : decode cX5_init 4 = .ok (.iconst 0, 1) := dk_3 (dk_at dksX5_init_0 4 rfl rfl)
theorem dX5_init_5 : decode cX5_init 5 = .ok (.invokespecial 1, 3) := dk_183 0 1 (dk_at dksX5_init_0 5 rfl rfl)
theorem dX5_init_8 : decode cX5_init 8 = .ok (.aload_n 0, 1) := dk_42 (dk_at dksX5_init_0 8 rfl rfl)
theorem dX5_init_9 : decode cX5_init 9 = .ok (.iload_n 1, 1) := dk_27 (dk_at dksX5_init_0 9 rfl rfl)
theorem dX5_init_10 : decode cX5_init 10 = .ok (.putfield 7, 3) := dk_181 0 7 (dk_at dksX5_init_0 10 rfl rfl)
theorem dX5_init_13 : decode cX5_init 13 = .ok (.return_, 1) := dk_177 (dk_at dksX5_init_0 13 rfl rfl)
theorem q78 : (Jvm.Cond.initialized "ThreeSizes$Refused") ∈ lw_all := lw_g (lw_at lw_m1 13 rfl) rfl
theorem q278 : (Jvm.Cond.selects "ThreeSizes$Refused" ({ cls := "java/lang/Throwable", name := "fillInStackTrace", desc := "()Ljava/lang/Throwable;" } : Jvm.MethodName) ({ cls := "java/lang/Throwable", name := "fillInStackTrace", desc := "()Ljava/lang/Throwable;" } : Jvm.MethodName)) ∈ lw_all := lw_g (lw_at lw_m1 213 rfl) rfl
theorem q389 : (Jvm.Cond.instantiable "ThreeSizes$Refused" (7 : Nat)) ∈ lw_all := lw_g (lw_at lw_m2 84 rfl) rfl
theorem q390 : (Jvm.Cond.castable "ThreeSizes$Refused" "ThreeSizes$Refused") ∈ lw_tbl := lw_at lw_m2 85 rfl
theorem q391 : (Jvm.Cond.selects "ThreeSizes$Refused" ({ cls := "java/lang/Throwable", name := "fillInStackTrace", desc := "(I)Ljava/lang/Throwable;" } : Jvm.MethodName) ({ cls := "java/lang/Throwable", name := "fillInStackTrace", desc := "(I)Ljava/lang/Throwable;" } : Jvm.MethodName)) ∈ lw_all := lw_g (lw_at lw_m2 86 rfl) rfl
theorem q392 : (Jvm.Cond.lays "ThreeSizes$Refused" "java/lang/Throwable" "cause" "Ljava/lang/Throwable;") ∈ lw_all := lw_g (lw_at lw_m2 87 rfl) rfl
theorem q393 : (Jvm.Cond.lays "ThreeSizes$Refused" "java/lang/Throwable" "stackTrace" "[Ljava/lang/StackTraceElement;") ∈ lw_all := lw_g (lw_at lw_m2 88 rfl) rfl
theorem q394 : (Jvm.Cond.lays "ThreeSizes$Refused" "java/lang/Throwable" "suppressedExceptions" "Ljava/util/List;") ∈ lw_all := lw_g (lw_at lw_m2 89 rfl) rfl
theorem q395 : (Jvm.Cond.lays "ThreeSizes$Refused" "java/lang/Throwable" "detailMessage" "Ljava/lang/String;") ∈ lw_all := lw_g (lw_at lw_m2 90 rfl) rfl
theorem q396 : (Jvm.Cond.lays "ThreeSizes$Refused" "java/lang/Throwable" "backtrace" "Ljava/lang/Object;") ∈ lw_all := lw_g (lw_at lw_m2 91 rfl) rfl
theorem q398 : (Jvm.Cond.instanceMethod ({ cls := "ThreeSizes$Refused", name := "<init>", desc := "(I)V" } : Jvm.MethodName)) ∈ lw_all := lw_g (lw_at lw_m2 93 rfl) rfl
theorem q399 : (Jvm.Cond.code ({ cls := "ThreeSizes$Refused", name := "<init>", desc := "(I)V" } : Jvm.MethodName) prog_10_method_1_code (2 : Nat) (Option.none : Option Jvm.ClassFile.FieldType)) ∈ lw_all := lw_g (lw_at lw_m2 94 rfl) rfl
theorem q400 : (Jvm.Cond.methodLink "ThreeSizes$Refused" (1 : Nat) ({ cls := "java/lang/RuntimeException", name := "<init>", desc := "(Ljava/lang/String;Ljava/lang/Throwable;ZZ)V" } : Jvm.MethodName)) ∈ lw_all := lw_g (lw_at lw_m2 95 rfl) rfl
theorem q409 : (Jvm.Cond.fieldLink "ThreeSizes$Refused" (7 : Nat) "ThreeSizes$Refused" "by" "I") ∈ lw_all := lw_g (lw_at lw_m2 104 rfl) rfl
theorem q411 : (Jvm.Cond.laysFinal "ThreeSizes$Refused" "ThreeSizes$Refused" "by" "I") ∈ lw_all := lw_g (lw_at lw_m2 106 rfl) rfl
theorem q412 : (Jvm.Cond.soleField "ThreeSizes$Refused" "by") ∈ lw_all := lw_g (lw_at lw_m2 107 rfl) rfl
theorem q413 : (Jvm.Cond.lays "ThreeSizes$Refused" "java/lang/Throwable" "depth" "I") ∈ lw_all := lw_g (lw_at lw_m2 108 rfl) rfl
theorem q414 : (Jvm.Cond.superclass "ThreeSizes$Refused" "java/lang/RuntimeException") ∈ lw_all := lw_g (lw_at lw_m2 109 rfl) rfl
theorem in_X5 : ∀ w ∈ wsX50, w ∈ lw_all := lw_in wsX50 [392, 393, 394, 395, 396, 413, 411] (by decide +kernel) (by decide +kernel)
/-! ThreeSizes$Rule -/
set_option maxRecDepth 100000
def RX6 : String := "ThreeSizes$Rule"
abbrev cX6_init : ByteArray := prog_11_method_1_code
def yX6_init : MethodName := ⟨RX6, "<init>", "(I)V"⟩
def dkwX6_init_0 : List UInt8 := [42, 183, 0, 3, 42, 27, 181, 0, 9, 177]
abbrev dktX6_init_0 : List UInt8 := dkwX6_init_0 ++ []
theorem dksX6_init_0 : cX6_init.data.toList.drop 0 = dktX6_init_0 := by decide +kernel
theorem dX6_init_0 : decode cX6_init 0 = .ok (.aload_n 0, 1) := dk_42 (dk_at dksX6_init_0 0 rfl rfl)
theorem dX6_init_1 : decode cX6_init 1 = .ok (.invokespecial 3, 3) := dk_183 0 3 (dk_at dksX6_init_0 1 rfl rfl)
theorem dX6_init_4 : decode cX6_init 4 = .ok (.aload_n 0, 1) := dk_42 (dk_at dksX6_init_0 4 rfl rfl)
theorem dX6_init_5 : decode cX6_init 5 = .ok (.iload_n 1, 1) := dk_27 (dk_at dksX6_init_0 5 rfl rfl)
theorem dX6_init_6 : decode cX6_init 6 = .ok (.putfield 9, 3) := dk_181 0 9 (dk_at dksX6_init_0 6 rfl rfl)
theorem dX6_init_9 : decode cX6_init 9 = .ok (.return_, 1) := dk_177 (dk_at dksX6_init_0 9 rfl rfl)
abbrev cX6_says : ByteArray := prog_11_method_4_code
def yX6_says : MethodName := ⟨RX6, "says", "(LThreeSizes$Wall;)I"⟩
def dkwX6_says_1 : List UInt8 := [3, 43, 182, 0, 29, 182, 0, 33, 172]
abbrev dktX6_says_1 : List UInt8 := dkwX6_says_1 ++ []
def dkwX6_says_0 : List UInt8 := [43, 180, 0, 15, 154, 0, 13, 187, 0, 20, 89, 16, 251, 183, 0, 22, 191, 42, 43, 182, 0, 25, 42, 43]
abbrev dktX6_says_0 : List UInt8 := dkwX6_says_0 ++ dktX6_says_1
theorem dksX6_says_0 : cX6_says.data.toList.drop 0 = dktX6_says_0 := by decide +kernel
theorem dksX6_says_1 : cX6_says.data.toList.drop 24 = dktX6_says_1 := dk_seg dksX6_says_0 24 rfl rfl
theorem dX6_says_0 : decode cX6_says 0 = .ok (.aload_n 1, 1) := dk_43 (dk_at dksX6_says_0 0 rfl rfl)
theorem dX6_says_1 : decode cX6_says 1 = .ok (.getfield 15, 3) := dk_180 0 15 (dk_at dksX6_says_0 1 rfl rfl)
theorem dX6_says_4 : decode cX6_says 4 = .ok (.ifCond .ne 13, 3) := dk_154 0 13 (dk_at dksX6_says_0 4 rfl rfl)
theorem dX6_says_7 : decode cX6_says 7 = .ok (.new 20, 3) := dk_187 0 20 (dk_at dksX6_says_0 7 rfl rfl)
theorem dX6_says_10 : decode cX6_says 10 = .ok (.dup, 1) := dk_89 (dk_at dksX6_says_0 10 rfl rfl)
theorem dX6_says_11 : decode cX6_says 11 = .ok (.bipush (-5), 2) := dk_16 251 (dk_at dksX6_says_0 11 rfl rfl)
theorem dX6_says_13 : decode cX6_says 13 = .ok (.invokespecial 22, 3) := dk_183 0 22 (dk_at dksX6_says_0 13 rfl rfl)
theorem dX6_says_16 : decode cX6_says 16 = .ok (.athrow, 1) := dk_191 (dk_at dksX6_says_0 16 rfl rfl)
theorem dX6_says_17 : decode cX6_says 17 = .ok (.aload_n 0, 1) := dk_42 (dk_at dksX6_says_0 17 rfl rfl)
theorem dX6_says_18 : decode cX6_says 18 = .ok (.aload_n 1, 1) := dk_43 (dk_at dksX6_says_0 18 rfl rfl)
theorem dX6_says_19 : decode cX6_says 19 = .ok (.invokevirtual 25, 3) := dk_182 0 25 (dk_at dksX6_says_0 19 rfl rfl)
theorem dX6_says_22 : decode cX6_says 22 = .ok (.aload_n 0, 1) := dk_42 (dk_at dksX6_says_0 22 rfl rfl)
theorem dX6_says_23 : decode cX6_says 23 = .ok (.aload_n 1, 1) := dk_43 (dk_at dksX6_says_0 23 rfl rfl)
theorem dX6_says_24 : decode cX6_says 24 = .ok (.iconst 0, 1) := dk_3 (dk_at dksX6_says_1 0 rfl rfl)
theorem dX6_says_25 : decode cX6_says 25 = .ok (.aload_n 1, 1) := dk_43 (dk_at dksX6_says_1 1 rfl rfl)
theorem dX6_says_26 : decode cX6_says 26 = .ok (.invokevirtual 29, 3) := dk_182 0 29 (dk_at dksX6_says_1 2 rfl rfl)
theorem dX6_says_29 : decode cX6_says 29 = .ok (.invokevirtual 33, 3) := dk_182 0 33 (dk_at dksX6_says_1 5 rfl rfl)
theorem dX6_says_32 : decode cX6_says 32 = .ok (.ireturn, 1) := dk_172 (dk_at dksX6_says_1 8 rfl rfl)
abbrev cX6_learns : ByteArray := prog_11_method_3_code
def yX6_learns : MethodName := ⟨RX6, "learns", "(LThreeSizes$Wall;)V"⟩
theorem dX6_learns_0 : decode cX6_learns 0 = .ok (.return_, 1) := by decide +kernel
theorem q82 : (Jvm.Cond.initialized "ThreeSizes$Rule") ∈ lw_all := lw_g (lw_at lw_m1 17 rfl) rfl
theorem q152 : (Jvm.Cond.fieldLink "ThreeSizes$Rule" (15 : Nat) "ThreeSizes$Wall" "sorts" "I") ∈ lw_all := lw_g (lw_at lw_m1 87 rfl) rfl
theorem q485 : (Jvm.Cond.declares ({ cls := "ThreeSizes$Rule", name := "kind", desc := "()I" } : Jvm.MethodName)) ∈ lw_tbl := lw_at lw_m2 180 rfl
theorem q486 : (Jvm.Cond.sameMethod "ThreeSizes$Rule" "ThreeSizes$Rule" "kind" "()I") ∈ lw_all := lw_g (lw_at lw_m2 181 rfl) rfl
theorem q518 : (Jvm.Cond.instanceMethod ({ cls := "ThreeSizes$Rule", name := "<init>", desc := "(I)V" } : Jvm.MethodName)) ∈ lw_all := lw_g (lw_at lw_m2 213 rfl) rfl
theorem q519 : (Jvm.Cond.code ({ cls := "ThreeSizes$Rule", name := "<init>", desc := "(I)V" } : Jvm.MethodName) prog_11_method_1_code (2 : Nat) (Option.none : Option Jvm.ClassFile.FieldType)) ∈ lw_all := lw_g (lw_at lw_m2 214 rfl) rfl
theorem q520 : (Jvm.Cond.methodLink "ThreeSizes$Rule" (3 : Nat) ({ cls := "java/lang/Object", name := "<init>", desc := "()V" } : Jvm.MethodName)) ∈ lw_all := lw_g (lw_at lw_m2 215 rfl) rfl
theorem q521 : (Jvm.Cond.fieldLink "ThreeSizes$Rule" (9 : Nat) "ThreeSizes$Rule" "a" "I") ∈ lw_all := lw_g (lw_at lw_m2 216 rfl) rfl
theorem q530 : (Jvm.Cond.soleField "ThreeSizes$Rule" "a") ∈ lw_all := lw_g (lw_at lw_m2 225 rfl) rfl
theorem q595 : (Jvm.Cond.declares ({ cls := "ThreeSizes$Rule", name := "says", desc := "(LThreeSizes$Wall;)I" } : Jvm.MethodName)) ∈ lw_tbl := lw_at lw_m3 50 rfl
theorem q599 : (Jvm.Cond.instanceMethod ({ cls := "ThreeSizes$Rule", name := "says", desc := "(LThreeSizes$Wall;)I" } : Jvm.MethodName)) ∈ lw_all := lw_g (lw_at lw_m3 54 rfl) rfl
theorem q600 : (Jvm.Cond.code ({ cls := "ThreeSizes$Rule", name := "says", desc := "(LThreeSizes$Wall;)I" } : Jvm.MethodName) prog_11_method_4_code (2 : Nat) (Option.some Jvm.ClassFile.FieldType.int)) ∈ lw_all := lw_g (lw_at lw_m3 55 rfl) rfl
theorem q601 : (Jvm.Cond.classLink "ThreeSizes$Rule" (20 : Nat) "ThreeSizes$Refused") ∈ lw_all := lw_g (lw_at lw_m3 56 rfl) rfl
theorem q602 : (Jvm.Cond.methodLink "ThreeSizes$Rule" (22 : Nat) ({ cls := "ThreeSizes$Refused", name := "<init>", desc := "(I)V" } : Jvm.MethodName)) ∈ lw_all := lw_g (lw_at lw_m3 57 rfl) rfl
theorem q603 : (Jvm.Cond.methodLink "ThreeSizes$Rule" (25 : Nat) ({ cls := "ThreeSizes$Rule", name := "learns", desc := "(LThreeSizes$Wall;)V" } : Jvm.MethodName)) ∈ lw_all := lw_g (lw_at lw_m3 58 rfl) rfl
theorem q604 : (Jvm.Cond.instanceMethod ({ cls := "ThreeSizes$Rule", name := "learns", desc := "(LThreeSizes$Wall;)V" } : Jvm.MethodName)) ∈ lw_all := lw_g (lw_at lw_m3 59 rfl) rfl
theorem q605 : (Jvm.Cond.sameMethod "ThreeSizes$Rule" "ThreeSizes$Rule" "learns" "(LThreeSizes$Wall;)V") ∈ lw_all := lw_g (lw_at lw_m3 60 rfl) rfl
theorem q698 : (Jvm.Cond.superclass "ThreeSizes$Rule" "java/lang/Object") ∈ lw_all := lw_g (lw_at lw_m3 153 rfl) rfl
theorem q741 : (Jvm.Cond.code ({ cls := "ThreeSizes$Rule", name := "learns", desc := "(LThreeSizes$Wall;)V" } : Jvm.MethodName) prog_11_method_3_code (2 : Nat) (Option.none : Option Jvm.ClassFile.FieldType)) ∈ lw_all := lw_g (lw_at lw_m3 196 rfl) rfl
theorem q742 : (Jvm.Cond.methodLink "ThreeSizes$Rule" (29 : Nat) ({ cls := "ThreeSizes$Wall", name := "state", desc := "()I" } : Jvm.MethodName)) ∈ lw_all := lw_g (lw_at lw_m3 197 rfl) rfl
/-! ThreeSizes$Least -/
set_option maxRecDepth 100000
def RX7 : String := "ThreeSizes$Least"
def TX7 : u_T := fun k => match k with
  | _ => ("ThreeSizes$Rule", "a", "I", true)
def tyX7 : Nat → FieldType := fun k => match k with
  | _ => .int
abbrev wsX70 : List Cond := u_ws RX7 TX7 1
theorem nmX7 : ∀ a, a < 1 → ∀ b, b < 1 → a ≠ b → (TX7 a).2.1 ≠ (TX7 b).2.1 := by decide +kernel
theorem tyX7_ok : ∀ k, k < 1 → parseFieldDescriptor (TX7 k).2.2.1 = some (tyX7 k) := by decide +kernel
abbrev cX7_kind : ByteArray := prog_7_method_2_code
def yX7_kind : MethodName := ⟨RX7, "kind", "()I"⟩
theorem dX7_kind_0 : decode cX7_kind 0 = .ok (.iconst 1, 1) := by decide +kernel
theorem dX7_kind_1 : decode cX7_kind 1 = .ok (.ireturn, 1) := by decide +kernel
abbrev cX7_init : ByteArray := prog_7_method_1_code
def yX7_init : MethodName := ⟨RX7, "<init>", "(I)V"⟩
def dkwX7_init_0 : List UInt8 := [42, 27, 183, 0, 3, 177]
abbrev dktX7_init_0 : List UInt8 := dkwX7_init_0 ++ []
theorem dksX7_init_0 : cX7_init.data.toList.drop 0 = dktX7_init_0 := by decide +kernel
theorem dX7_init_0 : decode cX7_init 0 = .ok (.aload_n 0, 1) := dk_42 (dk_at dksX7_init_0 0 rfl rfl)
theorem dX7_init_1 : decode cX7_init 1 = .ok (.iload_n 1, 1) := dk_27 (dk_at dksX7_init_0 1 rfl rfl)
theorem dX7_init_2 : decode cX7_init 2 = .ok (.invokespecial 3, 3) := dk_183 0 3 (dk_at dksX7_init_0 2 rfl rfl)
theorem dX7_init_5 : decode cX7_init 5 = .ok (.return_, 1) := dk_177 (dk_at dksX7_init_0 5 rfl rfl)
abbrev cX7_gets : ByteArray := prog_7_method_4_code
def yX7_gets : MethodName := ⟨RX7, "gets", "(LThreeSizes$Wall;II)I"⟩
def dkwX7_gets_1 : List UInt8 := [21, 4, 29, 182, 0, 15, 154, 0, 6, 21, 4, 172, 132, 4, 1, 167, 255, 221, 2, 172]
abbrev dktX7_gets_1 : List UInt8 := dkwX7_gets_1 ++ []
def dkwX7_gets_0 : List UInt8 := [3, 54, 4, 21, 4, 6, 162, 0, 35, 43, 28, 21, 4, 29, 182, 0, 9, 153, 0, 18, 42, 43, 28]
abbrev dktX7_gets_0 : List UInt8 := dkwX7_gets_0 ++ dktX7_gets_1
theorem dksX7_gets_0 : cX7_gets.data.toList.drop 0 = dktX7_gets_0 := by decide +kernel
theorem dksX7_gets_1 : cX7_gets.data.toList.drop 23 = dktX7_gets_1 := dk_seg dksX7_gets_0 23 rfl rfl
theorem dX7_gets_0 : decode cX7_gets 0 = .ok (.iconst 0, 1) := dk_3 (dk_at dksX7_gets_0 0 rfl rfl)
theorem dX7_gets_1 : decode cX7_gets 1 = .ok (.istore 4, 2) := dk_54 4 (dk_at dksX7_gets_0 1 rfl rfl)
theorem dX7_gets_3 : decode cX7_gets 3 = .ok (.iload 4, 2) := dk_21 4 (dk_at dksX7_gets_0 3 rfl rfl)
theorem dX7_gets_5 : decode cX7_gets 5 = .ok (.iconst 3, 1) := dk_6 (dk_at dksX7_gets_0 5 rfl rfl)
theorem dX7_gets_6 : decode cX7_gets 6 = .ok (.if_icmp .ge 35, 3) := dk_162 0 35 (dk_at dksX7_gets_0 6 rfl rfl)
theorem dX7_gets_9 : decode cX7_gets 9 = .ok (.aload_n 1, 1) := dk_43 (dk_at dksX7_gets_0 9 rfl rfl)
theorem dX7_gets_10 : decode cX7_gets 10 = .ok (.iload_n 2, 1) := dk_28 (dk_at dksX7_gets_0 10 rfl rfl)
theorem dX7_gets_11 : decode cX7_gets 11 = .ok (.iload 4, 2) := dk_21 4 (dk_at dksX7_gets_0 11 rfl rfl)
theorem dX7_gets_13 : decode cX7_gets 13 = .ok (.iload_n 3, 1) := dk_29 (dk_at dksX7_gets_0 13 rfl rfl)
theorem dX7_gets_14 : decode cX7_gets 14 = .ok (.invokevirtual 9, 3) := dk_182 0 9 (dk_at dksX7_gets_0 14 rfl rfl)
theorem dX7_gets_17 : decode cX7_gets 17 = .ok (.ifCond .eq 18, 3) := dk_153 0 18 (dk_at dksX7_gets_0 17 rfl rfl)
theorem dX7_gets_20 : decode cX7_gets 20 = .ok (.aload_n 0, 1) := dk_42 (dk_at dksX7_gets_0 20 rfl rfl)
theorem dX7_gets_21 : decode cX7_gets 21 = .ok (.aload_n 1, 1) := dk_43 (dk_at dksX7_gets_0 21 rfl rfl)
theorem dX7_gets_22 : decode cX7_gets 22 = .ok (.iload_n 2, 1) := dk_28 (dk_at dksX7_gets_0 22 rfl rfl)
theorem dX7_gets_23 : decode cX7_gets 23 = .ok (.iload 4, 2) := dk_21 4 (dk_at dksX7_gets_1 0 rfl rfl)
theorem dX7_gets_25 : decode cX7_gets 25 = .ok (.iload_n 3, 1) := dk_29 (dk_at dksX7_gets_1 2 rfl rfl)
theorem dX7_gets_26 : decode cX7_gets 26 = .ok (.invokevirtual 15, 3) := dk_182 0 15 (dk_at dksX7_gets_1 3 rfl rfl)
theorem dX7_gets_29 : decode cX7_gets 29 = .ok (.ifCond .ne 6, 3) := dk_154 0 6 (dk_at dksX7_gets_1 6 rfl rfl)
theorem dX7_gets_32 : decode cX7_gets 32 = .ok (.iload 4, 2) := dk_21 4 (dk_at dksX7_gets_1 9 rfl rfl)
theorem dX7_gets_34 : decode cX7_gets 34 = .ok (.ireturn, 1) := dk_172 (dk_at dksX7_gets_1 11 rfl rfl)
theorem dX7_gets_35 : decode cX7_gets 35 = .ok (.iinc 4 1, 3) := dk_132 4 1 (dk_at dksX7_gets_1 12 rfl rfl)
theorem dX7_gets_38 : decode cX7_gets 38 = .ok (.goto (-35), 3) := dk_167 255 221 (dk_at dksX7_gets_1 15 rfl rfl)
theorem dX7_gets_41 : decode cX7_gets 41 = .ok (.iconst (-1), 1) := dk_2 (dk_at dksX7_gets_1 18 rfl rfl)
theorem dX7_gets_42 : decode cX7_gets 42 = .ok (.ireturn, 1) := dk_172 (dk_at dksX7_gets_1 19 rfl rfl)
abbrev cX7_isKept : ByteArray := prog_7_method_3_code
def yX7_isKept : MethodName := ⟨RX7, "isKept", "(LThreeSizes$Wall;III)Z"⟩
theorem dX7_isKept_0 : decode cX7_isKept 0 = .ok (.iconst 0, 1) := by decide +kernel
theorem dX7_isKept_1 : decode cX7_isKept 1 = .ok (.ireturn, 1) := by decide +kernel
theorem q83 : (Jvm.Cond.initialized "ThreeSizes$Least") ∈ lw_all := lw_g (lw_at lw_m1 18 rfl) rfl
theorem q496 : (Jvm.Cond.selects "ThreeSizes$Least" ({ cls := "ThreeSizes$Rule", name := "kind", desc := "()I" } : Jvm.MethodName) ({ cls := "ThreeSizes$Least", name := "kind", desc := "()I" } : Jvm.MethodName)) ∈ lw_all := lw_g (lw_at lw_m2 191 rfl) rfl
theorem q497 : (Jvm.Cond.instanceMethod ({ cls := "ThreeSizes$Least", name := "kind", desc := "()I" } : Jvm.MethodName)) ∈ lw_all := lw_g (lw_at lw_m2 192 rfl) rfl
theorem q498 : (Jvm.Cond.code ({ cls := "ThreeSizes$Least", name := "kind", desc := "()I" } : Jvm.MethodName) prog_7_method_2_code (1 : Nat) (Option.some Jvm.ClassFile.FieldType.int)) ∈ lw_all := lw_g (lw_at lw_m2 193 rfl) rfl
theorem q513 : (Jvm.Cond.instantiable "ThreeSizes$Least" (1 : Nat)) ∈ lw_all := lw_g (lw_at lw_m2 208 rfl) rfl
theorem q515 : (Jvm.Cond.instanceMethod ({ cls := "ThreeSizes$Least", name := "<init>", desc := "(I)V" } : Jvm.MethodName)) ∈ lw_all := lw_g (lw_at lw_m2 210 rfl) rfl
theorem q516 : (Jvm.Cond.code ({ cls := "ThreeSizes$Least", name := "<init>", desc := "(I)V" } : Jvm.MethodName) prog_7_method_1_code (2 : Nat) (Option.none : Option Jvm.ClassFile.FieldType)) ∈ lw_all := lw_g (lw_at lw_m2 211 rfl) rfl
theorem q517 : (Jvm.Cond.methodLink "ThreeSizes$Least" (3 : Nat) ({ cls := "ThreeSizes$Rule", name := "<init>", desc := "(I)V" } : Jvm.MethodName)) ∈ lw_all := lw_g (lw_at lw_m2 212 rfl) rfl
theorem q529 : (Jvm.Cond.laysFinal "ThreeSizes$Least" "ThreeSizes$Rule" "a" "I") ∈ lw_all := lw_g (lw_at lw_m2 224 rfl) rfl
theorem q531 : (Jvm.Cond.superclass "ThreeSizes$Least" "ThreeSizes$Rule") ∈ lw_all := lw_g (lw_at lw_m2 226 rfl) rfl
theorem q594 : (Jvm.Cond.sameMethod "ThreeSizes$Least" "ThreeSizes$Rule" "says" "(LThreeSizes$Wall;)I") ∈ lw_all := lw_g (lw_at lw_m3 49 rfl) rfl
theorem q597 : (Jvm.Cond.selects "ThreeSizes$Least" ({ cls := "ThreeSizes$Least", name := "says", desc := "(LThreeSizes$Wall;)I" } : Jvm.MethodName) ({ cls := "ThreeSizes$Rule", name := "says", desc := "(LThreeSizes$Wall;)I" } : Jvm.MethodName)) ∈ lw_all := lw_g (lw_at lw_m3 52 rfl) rfl
theorem q609 : (Jvm.Cond.selects "ThreeSizes$Least" ({ cls := "ThreeSizes$Rule", name := "learns", desc := "(LThreeSizes$Wall;)V" } : Jvm.MethodName) ({ cls := "ThreeSizes$Rule", name := "learns", desc := "(LThreeSizes$Wall;)V" } : Jvm.MethodName)) ∈ lw_all := lw_g (lw_at lw_m3 64 rfl) rfl
theorem q716 : (Jvm.Cond.instanceMethod ({ cls := "ThreeSizes$Least", name := "gets", desc := "(LThreeSizes$Wall;II)I" } : Jvm.MethodName)) ∈ lw_all := lw_g (lw_at lw_m3 171 rfl) rfl
theorem q717 : (Jvm.Cond.code ({ cls := "ThreeSizes$Least", name := "gets", desc := "(LThreeSizes$Wall;II)I" } : Jvm.MethodName) prog_7_method_4_code (5 : Nat) (Option.some Jvm.ClassFile.FieldType.int)) ∈ lw_all := lw_g (lw_at lw_m3 172 rfl) rfl
theorem q718 : (Jvm.Cond.methodLink "ThreeSizes$Least" (9 : Nat) ({ cls := "ThreeSizes$Wall", name := "fits", desc := "(III)Z" } : Jvm.MethodName)) ∈ lw_all := lw_g (lw_at lw_m3 173 rfl) rfl
theorem q719 : (Jvm.Cond.methodLink "ThreeSizes$Least" (15 : Nat) ({ cls := "ThreeSizes$Least", name := "isKept", desc := "(LThreeSizes$Wall;III)Z" } : Jvm.MethodName)) ∈ lw_all := lw_g (lw_at lw_m3 174 rfl) rfl
theorem q720 : (Jvm.Cond.instanceMethod ({ cls := "ThreeSizes$Least", name := "isKept", desc := "(LThreeSizes$Wall;III)Z" } : Jvm.MethodName)) ∈ lw_all := lw_g (lw_at lw_m3 175 rfl) rfl
theorem q721 : (Jvm.Cond.selects "ThreeSizes$Least" ({ cls := "ThreeSizes$Least", name := "isKept", desc := "(LThreeSizes$Wall;III)Z" } : Jvm.MethodName) ({ cls := "ThreeSizes$Least", name := "isKept", desc := "(LThreeSizes$Wall;III)Z" } : Jvm.MethodName)) ∈ lw_all := lw_g (lw_at lw_m3 176 rfl) rfl
theorem q722 : (Jvm.Cond.sameMethod "ThreeSizes$Least" "ThreeSizes$Least" "isKept" "(LThreeSizes$Wall;III)Z") ∈ lw_all := lw_g (lw_at lw_m3 177 rfl) rfl
theorem q728 : (Jvm.Cond.code ({ cls := "ThreeSizes$Least", name := "isKept", desc := "(LThreeSizes$Wall;III)Z" } : Jvm.MethodName) prog_7_method_3_code (5 : Nat) (Option.some Jvm.ClassFile.FieldType.boolean)) ∈ lw_all := lw_g (lw_at lw_m3 183 rfl) rfl
theorem q729 : (Jvm.Cond.selects "ThreeSizes$Least" ({ cls := "ThreeSizes$Says", name := "gets", desc := "(LThreeSizes$Wall;II)I" } : Jvm.MethodName) ({ cls := "ThreeSizes$Least", name := "gets", desc := "(LThreeSizes$Wall;II)I" } : Jvm.MethodName)) ∈ lw_all := lw_g (lw_at lw_m3 184 rfl) rfl
theorem q1951 : (Jvm.Cond.sameMethod "ThreeSizes$Least" "ThreeSizes$Least" "gets" "(LThreeSizes$Wall;II)I") ∈ lw_all := lw_g (lw_at lw_m8 206 rfl) rfl
theorem q1961 : (Jvm.Cond.castable "ThreeSizes$Least" "ThreeSizes$Rule") ∈ lw_tbl := lw_at lw_m8 216 rfl
theorem in_X7 : ∀ w ∈ wsX70, w ∈ lw_all := lw_in wsX70 [529] (by decide +kernel) (by decide +kernel)
/-! ThreeSizes$Keep -/
set_option maxRecDepth 100000
def RX8 : String := "ThreeSizes$Keep"
def TX8 : u_T := fun k => match k with
  | _ => ("ThreeSizes$Rule", "a", "I", true)
def tyX8 : Nat → FieldType := fun k => match k with
  | _ => .int
abbrev wsX80 : List Cond := u_ws RX8 TX8 1
theorem nmX8 : ∀ a, a < 1 → ∀ b, b < 1 → a ≠ b → (TX8 a).2.1 ≠ (TX8 b).2.1 := by decide +kernel
theorem tyX8_ok : ∀ k, k < 1 → parseFieldDescriptor (TX8 k).2.2.1 = some (tyX8 k) := by decide +kernel
abbrev cX8_kind : ByteArray := prog_6_method_2_code
def yX8_kind : MethodName := ⟨RX8, "kind", "()I"⟩
theorem dX8_kind_0 : decode cX8_kind 0 = .ok (.iconst 2, 1) := by decide +kernel
theorem dX8_kind_1 : decode cX8_kind 1 = .ok (.ireturn, 1) := by decide +kernel
abbrev cX8_init : ByteArray := prog_6_method_1_code
def yX8_init : MethodName := ⟨RX8, "<init>", "(I)V"⟩
def dkwX8_init_0 : List UInt8 := [42, 27, 183, 0, 1, 177]
abbrev dktX8_init_0 : List UInt8 := dkwX8_init_0 ++ []
theorem dksX8_init_0 : cX8_init.data.toList.drop 0 = dktX8_init_0 := by decide +kernel
theorem dX8_init_0 : decode cX8_init 0 = .ok (.aload_n 0, 1) := dk_42 (dk_at dksX8_init_0 0 rfl rfl)
theorem dX8_init_1 : decode cX8_init 1 = .ok (.iload_n 1, 1) := dk_27 (dk_at dksX8_init_0 1 rfl rfl)
theorem dX8_init_2 : decode cX8_init 2 = .ok (.invokespecial 1, 3) := dk_183 0 1 (dk_at dksX8_init_0 2 rfl rfl)
theorem dX8_init_5 : decode cX8_init 5 = .ok (.return_, 1) := dk_177 (dk_at dksX8_init_0 5 rfl rfl)
abbrev cX8_isKept : ByteArray := prog_6_method_3_code
def yX8_isKept : MethodName := ⟨RX8, "isKept", "(LThreeSizes$Wall;III)Z"⟩
def dkwX8_isKept_1 : List UInt8 := [167, 0, 4, 3, 172]
abbrev dktX8_isKept_1 : List UInt8 := dkwX8_isKept_1 ++ []
def dkwX8_isKept_0 : List UInt8 := [29, 43, 180, 0, 7, 28, 46, 164, 0, 20, 21, 4, 29, 184, 0, 13, 42, 180, 0, 19, 163, 0, 7, 4]
abbrev dktX8_isKept_0 : List UInt8 := dkwX8_isKept_0 ++ dktX8_isKept_1
theorem dksX8_isKept_0 : cX8_isKept.data.toList.drop 0 = dktX8_isKept_0 := by decide +kernel
theorem dksX8_isKept_1 : cX8_isKept.data.toList.drop 24 = dktX8_isKept_1 := dk_seg dksX8_isKept_0 24 rfl rfl
theorem dX8_isKept_0 : decode cX8_isKept 0 = .ok (.iload_n 3, 1) := dk_29 (dk_at dksX8_isKept_0 0 rfl rfl)
theorem dX8_isKept_1 : decode cX8_isKept 1 = .ok (.aload_n 1, 1) := dk_43 (dk_at dksX8_isKept_0 1 rfl rfl)
theorem dX8_isKept_2 : decode cX8_isKept 2 = .ok (.getfield 7, 3) := dk_180 0 7 (dk_at dksX8_isKept_0 2 rfl rfl)
theorem dX8_isKept_5 : decode cX8_isKept 5 = .ok (.iload_n 2, 1) := dk_28 (dk_at dksX8_isKept_0 5 rfl rfl)
theorem dX8_isKept_6 : decode cX8_isKept 6 = .ok (.iaload, 1) := dk_46 (dk_at dksX8_isKept_0 6 rfl rfl)
theorem dX8_isKept_7 : decode cX8_isKept 7 = .ok (.if_icmp .le 20, 3) := dk_164 0 20 (dk_at dksX8_isKept_0 7 rfl rfl)
theorem dX8_isKept_10 : decode cX8_isKept 10 = .ok (.iload 4, 2) := dk_21 4 (dk_at dksX8_isKept_0 10 rfl rfl)
theorem dX8_isKept_12 : decode cX8_isKept 12 = .ok (.iload_n 3, 1) := dk_29 (dk_at dksX8_isKept_0 12 rfl rfl)
theorem dX8_isKept_13 : decode cX8_isKept 13 = .ok (.invokestatic 13, 3) := dk_184 0 13 (dk_at dksX8_isKept_0 13 rfl rfl)
theorem dX8_isKept_16 : decode cX8_isKept 16 = .ok (.aload_n 0, 1) := dk_42 (dk_at dksX8_isKept_0 16 rfl rfl)
theorem dX8_isKept_17 : decode cX8_isKept 17 = .ok (.getfield 19, 3) := dk_180 0 19 (dk_at dksX8_isKept_0 17 rfl rfl)
theorem dX8_isKept_20 : decode cX8_isKept 20 = .ok (.if_icmp .gt 7, 3) := dk_163 0 7 (dk_at dksX8_isKept_0 20 rfl rfl)
theorem dX8_isKept_23 : decode cX8_isKept 23 = .ok (.iconst 1, 1) := dk_4 (dk_at dksX8_isKept_0 23 rfl rfl)
theorem dX8_isKept_24 : decode cX8_isKept 24 = .ok (.goto 4, 3) := dk_167 0 4 (dk_at dksX8_isKept_1 0 rfl rfl)
theorem dX8_isKept_27 : decode cX8_isKept 27 = .ok (.iconst 0, 1) := dk_3 (dk_at dksX8_isKept_1 3 rfl rfl)
theorem dX8_isKept_28 : decode cX8_isKept 28 = .ok (.ireturn, 1) := dk_172 (dk_at dksX8_isKept_1 4 rfl rfl)
theorem q84 : (Jvm.Cond.initialized "ThreeSizes$Keep") ∈ lw_all := lw_g (lw_at lw_m1 19 rfl) rfl
theorem q136 : (Jvm.Cond.fieldLink "ThreeSizes$Keep" (7 : Nat) "ThreeSizes$Wall" "need" "[I") ∈ lw_all := lw_g (lw_at lw_m1 71 rfl) rfl
theorem q493 : (Jvm.Cond.selects "ThreeSizes$Keep" ({ cls := "ThreeSizes$Rule", name := "kind", desc := "()I" } : Jvm.MethodName) ({ cls := "ThreeSizes$Keep", name := "kind", desc := "()I" } : Jvm.MethodName)) ∈ lw_all := lw_g (lw_at lw_m2 188 rfl) rfl
theorem q494 : (Jvm.Cond.instanceMethod ({ cls := "ThreeSizes$Keep", name := "kind", desc := "()I" } : Jvm.MethodName)) ∈ lw_all := lw_g (lw_at lw_m2 189 rfl) rfl
theorem q495 : (Jvm.Cond.code ({ cls := "ThreeSizes$Keep", name := "kind", desc := "()I" } : Jvm.MethodName) prog_6_method_2_code (1 : Nat) (Option.some Jvm.ClassFile.FieldType.int)) ∈ lw_all := lw_g (lw_at lw_m2 190 rfl) rfl
theorem q526 : (Jvm.Cond.fieldLink "ThreeSizes$Keep" (19 : Nat) "ThreeSizes$Keep" "a" "I") ∈ lw_all := lw_g (lw_at lw_m2 221 rfl) rfl
theorem q527 : (Jvm.Cond.sameField "ThreeSizes$Keep" "ThreeSizes$Rule" "a" "I") ∈ lw_all := lw_g (lw_at lw_m2 222 rfl) rfl
theorem q533 : (Jvm.Cond.instantiable "ThreeSizes$Keep" (1 : Nat)) ∈ lw_all := lw_g (lw_at lw_m2 228 rfl) rfl
theorem q535 : (Jvm.Cond.instanceMethod ({ cls := "ThreeSizes$Keep", name := "<init>", desc := "(I)V" } : Jvm.MethodName)) ∈ lw_all := lw_g (lw_at lw_m2 230 rfl) rfl
theorem q536 : (Jvm.Cond.code ({ cls := "ThreeSizes$Keep", name := "<init>", desc := "(I)V" } : Jvm.MethodName) prog_6_method_1_code (2 : Nat) (Option.none : Option Jvm.ClassFile.FieldType)) ∈ lw_all := lw_g (lw_at lw_m2 231 rfl) rfl
theorem q537 : (Jvm.Cond.methodLink "ThreeSizes$Keep" (1 : Nat) ({ cls := "ThreeSizes$Least", name := "<init>", desc := "(I)V" } : Jvm.MethodName)) ∈ lw_all := lw_g (lw_at lw_m2 232 rfl) rfl
theorem q538 : (Jvm.Cond.laysFinal "ThreeSizes$Keep" "ThreeSizes$Rule" "a" "I") ∈ lw_all := lw_g (lw_at lw_m2 233 rfl) rfl
theorem q539 : (Jvm.Cond.superclass "ThreeSizes$Keep" "ThreeSizes$Least") ∈ lw_all := lw_g (lw_at lw_m2 234 rfl) rfl
theorem q596 : (Jvm.Cond.selects "ThreeSizes$Keep" ({ cls := "ThreeSizes$Least", name := "says", desc := "(LThreeSizes$Wall;)I" } : Jvm.MethodName) ({ cls := "ThreeSizes$Rule", name := "says", desc := "(LThreeSizes$Wall;)I" } : Jvm.MethodName)) ∈ lw_all := lw_g (lw_at lw_m3 51 rfl) rfl
theorem q608 : (Jvm.Cond.selects "ThreeSizes$Keep" ({ cls := "ThreeSizes$Rule", name := "learns", desc := "(LThreeSizes$Wall;)V" } : Jvm.MethodName) ({ cls := "ThreeSizes$Rule", name := "learns", desc := "(LThreeSizes$Wall;)V" } : Jvm.MethodName)) ∈ lw_all := lw_g (lw_at lw_m3 63 rfl) rfl
theorem q715 : (Jvm.Cond.selects "ThreeSizes$Keep" ({ cls := "ThreeSizes$Says", name := "gets", desc := "(LThreeSizes$Wall;II)I" } : Jvm.MethodName) ({ cls := "ThreeSizes$Least", name := "gets", desc := "(LThreeSizes$Wall;II)I" } : Jvm.MethodName)) ∈ lw_all := lw_g (lw_at lw_m3 170 rfl) rfl
theorem q723 : (Jvm.Cond.selects "ThreeSizes$Keep" ({ cls := "ThreeSizes$Least", name := "isKept", desc := "(LThreeSizes$Wall;III)Z" } : Jvm.MethodName) ({ cls := "ThreeSizes$Keep", name := "isKept", desc := "(LThreeSizes$Wall;III)Z" } : Jvm.MethodName)) ∈ lw_all := lw_g (lw_at lw_m3 178 rfl) rfl
theorem q724 : (Jvm.Cond.instanceMethod ({ cls := "ThreeSizes$Keep", name := "isKept", desc := "(LThreeSizes$Wall;III)Z" } : Jvm.MethodName)) ∈ lw_all := lw_g (lw_at lw_m3 179 rfl) rfl
theorem q725 : (Jvm.Cond.code ({ cls := "ThreeSizes$Keep", name := "isKept", desc := "(LThreeSizes$Wall;III)Z" } : Jvm.MethodName) prog_6_method_3_code (5 : Nat) (Option.some Jvm.ClassFile.FieldType.boolean)) ∈ lw_all := lw_g (lw_at lw_m3 180 rfl) rfl
theorem q726 : (Jvm.Cond.methodLinkNest "ThreeSizes$Keep" (13 : Nat) ({ cls := "ThreeSizes", name := "freeOf", desc := "(II)I" } : Jvm.MethodName) "ThreeSizes") ∈ lw_tbl := lw_at lw_m3 181 rfl
theorem q751 : (Jvm.Cond.sameMethod "ThreeSizes$Keep" "ThreeSizes$Rule" "says" "(LThreeSizes$Wall;)I") ∈ lw_all := lw_g (lw_at lw_m3 206 rfl) rfl
theorem q752 : (Jvm.Cond.selects "ThreeSizes$Keep" ({ cls := "ThreeSizes$Keep", name := "says", desc := "(LThreeSizes$Wall;)I" } : Jvm.MethodName) ({ cls := "ThreeSizes$Rule", name := "says", desc := "(LThreeSizes$Wall;)I" } : Jvm.MethodName)) ∈ lw_all := lw_g (lw_at lw_m3 207 rfl) rfl
theorem q1960 : (Jvm.Cond.castable "ThreeSizes$Keep" "ThreeSizes$Rule") ∈ lw_tbl := lw_at lw_m8 215 rfl
theorem q1964 : (Jvm.Cond.castable "ThreeSizes$Keep" "ThreeSizes$Least") ∈ lw_tbl := lw_at lw_m8 219 rfl
theorem in_X8 : ∀ w ∈ wsX80, w ∈ lw_all := lw_in wsX80 [538] (by decide +kernel) (by decide +kernel)
/-! ThreeSizes$Some -/
set_option maxRecDepth 100000
def RX9 : String := "ThreeSizes$Some"
def TX9 : u_T := fun k => match k with
  | _ => ("ThreeSizes$Rule", "a", "I", true)
def tyX9 : Nat → FieldType := fun k => match k with
  | _ => .int
abbrev wsX90 : List Cond := u_ws RX9 TX9 1
theorem nmX9 : ∀ a, a < 1 → ∀ b, b < 1 → a ≠ b → (TX9 a).2.1 ≠ (TX9 b).2.1 := by decide +kernel
theorem tyX9_ok : ∀ k, k < 1 → parseFieldDescriptor (TX9 k).2.2.1 = some (tyX9 k) := by decide +kernel
abbrev cX9_kind : ByteArray := prog_14_method_2_code
def yX9_kind : MethodName := ⟨RX9, "kind", "()I"⟩
theorem dX9_kind_0 : decode cX9_kind 0 = .ok (.iconst 3, 1) := by decide +kernel
theorem dX9_kind_1 : decode cX9_kind 1 = .ok (.ireturn, 1) := by decide +kernel
abbrev cX9_init : ByteArray := prog_14_method_1_code
def yX9_init : MethodName := ⟨RX9, "<init>", "(I)V"⟩
def dkwX9_init_0 : List UInt8 := [42, 27, 183, 0, 3, 177]
abbrev dktX9_init_0 : List UInt8 := dkwX9_init_0 ++ []
theorem dksX9_init_0 : cX9_init.data.toList.drop 0 = dktX9_init_0 := by decide +kernel
theorem dX9_init_0 : decode cX9_init 0 = .ok (.aload_n 0, 1) := dk_42 (dk_at dksX9_init_0 0 rfl rfl)
theorem dX9_init_1 : decode cX9_init 1 = .ok (.iload_n 1, 1) := dk_27 (dk_at dksX9_init_0 1 rfl rfl)
theorem dX9_init_2 : decode cX9_init 2 = .ok (.invokespecial 3, 3) := dk_183 0 3 (dk_at dksX9_init_0 2 rfl rfl)
theorem dX9_init_5 : decode cX9_init 5 = .ok (.return_, 1) := dk_177 (dk_at dksX9_init_0 5 rfl rfl)
abbrev cX9_gets : ByteArray := prog_14_method_3_code
def yX9_gets : MethodName := ⟨RX9, "gets", "(LThreeSizes$Wall;II)I"⟩
def dkwX9_gets_1 : List UInt8 := [172]
abbrev dktX9_gets_1 : List UInt8 := dkwX9_gets_1 ++ []
def dkwX9_gets_0 : List UInt8 := [43, 180, 0, 9, 28, 46, 42, 180, 0, 15, 162, 0, 7, 2, 167, 0, 10, 42, 43, 28, 29, 183, 0, 21]
abbrev dktX9_gets_0 : List UInt8 := dkwX9_gets_0 ++ dktX9_gets_1
theorem dksX9_gets_0 : cX9_gets.data.toList.drop 0 = dktX9_gets_0 := by decide +kernel
theorem dksX9_gets_1 : cX9_gets.data.toList.drop 24 = dktX9_gets_1 := dk_seg dksX9_gets_0 24 rfl rfl
theorem dX9_gets_0 : decode cX9_gets 0 = .ok (.aload_n 1, 1) := dk_43 (dk_at dksX9_gets_0 0 rfl rfl)
theorem dX9_gets_1 : decode cX9_gets 1 = .ok (.getfield 9, 3) := dk_180 0 9 (dk_at dksX9_gets_0 1 rfl rfl)
theorem dX9_gets_4 : decode cX9_gets 4 = .ok (.iload_n 2, 1) := dk_28 (dk_at dksX9_gets_0 4 rfl rfl)
theorem dX9_gets_5 : decode cX9_gets 5 = .ok (.iaload, 1) := dk_46 (dk_at dksX9_gets_0 5 rfl rfl)
theorem dX9_gets_6 : decode cX9_gets 6 = .ok (.aload_n 0, 1) := dk_42 (dk_at dksX9_gets_0 6 rfl rfl)
theorem dX9_gets_7 : decode cX9_gets 7 = .ok (.getfield 15, 3) := dk_180 0 15 (dk_at dksX9_gets_0 7 rfl rfl)
theorem dX9_gets_10 : decode cX9_gets 10 = .ok (.if_icmp .ge 7, 3) := dk_162 0 7 (dk_at dksX9_gets_0 10 rfl rfl)
theorem dX9_gets_13 : decode cX9_gets 13 = .ok (.iconst (-1), 1) := dk_2 (dk_at dksX9_gets_0 13 rfl rfl)
theorem dX9_gets_14 : decode cX9_gets 14 = .ok (.goto 10, 3) := dk_167 0 10 (dk_at dksX9_gets_0 14 rfl rfl)
theorem dX9_gets_17 : decode cX9_gets 17 = .ok (.aload_n 0, 1) := dk_42 (dk_at dksX9_gets_0 17 rfl rfl)
theorem dX9_gets_18 : decode cX9_gets 18 = .ok (.aload_n 1, 1) := dk_43 (dk_at dksX9_gets_0 18 rfl rfl)
theorem dX9_gets_19 : decode cX9_gets 19 = .ok (.iload_n 2, 1) := dk_28 (dk_at dksX9_gets_0 19 rfl rfl)
theorem dX9_gets_20 : decode cX9_gets 20 = .ok (.iload_n 3, 1) := dk_29 (dk_at dksX9_gets_0 20 rfl rfl)
theorem dX9_gets_21 : decode cX9_gets 21 = .ok (.invokespecial 21, 3) := dk_183 0 21 (dk_at dksX9_gets_0 21 rfl rfl)
theorem dX9_gets_24 : decode cX9_gets 24 = .ok (.ireturn, 1) := dk_172 (dk_at dksX9_gets_1 0 rfl rfl)
theorem q85 : (Jvm.Cond.initialized "ThreeSizes$Some") ∈ lw_all := lw_g (lw_at lw_m1 20 rfl) rfl
theorem q144 : (Jvm.Cond.fieldLink "ThreeSizes$Some" (9 : Nat) "ThreeSizes$Wall" "worth" "[I") ∈ lw_all := lw_g (lw_at lw_m1 79 rfl) rfl
theorem q499 : (Jvm.Cond.selects "ThreeSizes$Some" ({ cls := "ThreeSizes$Rule", name := "kind", desc := "()I" } : Jvm.MethodName) ({ cls := "ThreeSizes$Some", name := "kind", desc := "()I" } : Jvm.MethodName)) ∈ lw_all := lw_g (lw_at lw_m2 194 rfl) rfl
theorem q500 : (Jvm.Cond.instanceMethod ({ cls := "ThreeSizes$Some", name := "kind", desc := "()I" } : Jvm.MethodName)) ∈ lw_all := lw_g (lw_at lw_m2 195 rfl) rfl
theorem q501 : (Jvm.Cond.code ({ cls := "ThreeSizes$Some", name := "kind", desc := "()I" } : Jvm.MethodName) prog_14_method_2_code (1 : Nat) (Option.some Jvm.ClassFile.FieldType.int)) ∈ lw_all := lw_g (lw_at lw_m2 196 rfl) rfl
theorem q524 : (Jvm.Cond.fieldLink "ThreeSizes$Some" (15 : Nat) "ThreeSizes$Some" "a" "I") ∈ lw_all := lw_g (lw_at lw_m2 219 rfl) rfl
theorem q525 : (Jvm.Cond.sameField "ThreeSizes$Some" "ThreeSizes$Rule" "a" "I") ∈ lw_all := lw_g (lw_at lw_m2 220 rfl) rfl
theorem q541 : (Jvm.Cond.instantiable "ThreeSizes$Some" (1 : Nat)) ∈ lw_all := lw_g (lw_at lw_m2 236 rfl) rfl
theorem q543 : (Jvm.Cond.instanceMethod ({ cls := "ThreeSizes$Some", name := "<init>", desc := "(I)V" } : Jvm.MethodName)) ∈ lw_all := lw_g (lw_at lw_m2 238 rfl) rfl
theorem q544 : (Jvm.Cond.code ({ cls := "ThreeSizes$Some", name := "<init>", desc := "(I)V" } : Jvm.MethodName) prog_14_method_1_code (2 : Nat) (Option.none : Option Jvm.ClassFile.FieldType)) ∈ lw_all := lw_g (lw_at lw_m2 239 rfl) rfl
theorem q545 : (Jvm.Cond.methodLink "ThreeSizes$Some" (3 : Nat) ({ cls := "ThreeSizes$Least", name := "<init>", desc := "(I)V" } : Jvm.MethodName)) ∈ lw_all := lw_g (lw_at lw_m3 0 rfl) rfl
theorem q546 : (Jvm.Cond.laysFinal "ThreeSizes$Some" "ThreeSizes$Rule" "a" "I") ∈ lw_all := lw_g (lw_at lw_m3 1 rfl) rfl
theorem q547 : (Jvm.Cond.superclass "ThreeSizes$Some" "ThreeSizes$Least") ∈ lw_all := lw_g (lw_at lw_m3 2 rfl) rfl
theorem q598 : (Jvm.Cond.selects "ThreeSizes$Some" ({ cls := "ThreeSizes$Least", name := "says", desc := "(LThreeSizes$Wall;)I" } : Jvm.MethodName) ({ cls := "ThreeSizes$Rule", name := "says", desc := "(LThreeSizes$Wall;)I" } : Jvm.MethodName)) ∈ lw_all := lw_g (lw_at lw_m3 53 rfl) rfl
theorem q610 : (Jvm.Cond.selects "ThreeSizes$Some" ({ cls := "ThreeSizes$Rule", name := "learns", desc := "(LThreeSizes$Wall;)V" } : Jvm.MethodName) ({ cls := "ThreeSizes$Rule", name := "learns", desc := "(LThreeSizes$Wall;)V" } : Jvm.MethodName)) ∈ lw_all := lw_g (lw_at lw_m3 65 rfl) rfl
theorem q727 : (Jvm.Cond.selects "ThreeSizes$Some" ({ cls := "ThreeSizes$Least", name := "isKept", desc := "(LThreeSizes$Wall;III)Z" } : Jvm.MethodName) ({ cls := "ThreeSizes$Least", name := "isKept", desc := "(LThreeSizes$Wall;III)Z" } : Jvm.MethodName)) ∈ lw_all := lw_g (lw_at lw_m3 182 rfl) rfl
theorem q730 : (Jvm.Cond.selects "ThreeSizes$Some" ({ cls := "ThreeSizes$Says", name := "gets", desc := "(LThreeSizes$Wall;II)I" } : Jvm.MethodName) ({ cls := "ThreeSizes$Some", name := "gets", desc := "(LThreeSizes$Wall;II)I" } : Jvm.MethodName)) ∈ lw_all := lw_g (lw_at lw_m3 185 rfl) rfl
theorem q731 : (Jvm.Cond.instanceMethod ({ cls := "ThreeSizes$Some", name := "gets", desc := "(LThreeSizes$Wall;II)I" } : Jvm.MethodName)) ∈ lw_all := lw_g (lw_at lw_m3 186 rfl) rfl
theorem q732 : (Jvm.Cond.code ({ cls := "ThreeSizes$Some", name := "gets", desc := "(LThreeSizes$Wall;II)I" } : Jvm.MethodName) prog_14_method_3_code (4 : Nat) (Option.some Jvm.ClassFile.FieldType.int)) ∈ lw_all := lw_g (lw_at lw_m3 187 rfl) rfl
theorem q733 : (Jvm.Cond.methodLink "ThreeSizes$Some" (21 : Nat) ({ cls := "ThreeSizes$Least", name := "gets", desc := "(LThreeSizes$Wall;II)I" } : Jvm.MethodName)) ∈ lw_all := lw_g (lw_at lw_m3 188 rfl) rfl
theorem q754 : (Jvm.Cond.sameMethod "ThreeSizes$Some" "ThreeSizes$Rule" "says" "(LThreeSizes$Wall;)I") ∈ lw_all := lw_g (lw_at lw_m3 209 rfl) rfl
theorem q755 : (Jvm.Cond.selects "ThreeSizes$Some" ({ cls := "ThreeSizes$Some", name := "says", desc := "(LThreeSizes$Wall;)I" } : Jvm.MethodName) ({ cls := "ThreeSizes$Rule", name := "says", desc := "(LThreeSizes$Wall;)I" } : Jvm.MethodName)) ∈ lw_all := lw_g (lw_at lw_m3 210 rfl) rfl
theorem q1962 : (Jvm.Cond.castable "ThreeSizes$Some" "ThreeSizes$Rule") ∈ lw_tbl := lw_at lw_m8 217 rfl
theorem q1965 : (Jvm.Cond.castable "ThreeSizes$Some" "ThreeSizes$Least") ∈ lw_tbl := lw_at lw_m8 220 rfl
theorem in_X9 : ∀ w ∈ wsX90, w ∈ lw_all := lw_in wsX90 [546] (by decide +kernel) (by decide +kernel)
/-! ThreeSizes$Great -/
set_option maxRecDepth 100000
def RX10 : String := "ThreeSizes$Great"
def TX10 : u_T := fun k => match k with
  | _ => ("ThreeSizes$Rule", "a", "I", true)
def tyX10 : Nat → FieldType := fun k => match k with
  | _ => .int
abbrev wsX100 : List Cond := u_ws RX10 TX10 1
theorem nmX10 : ∀ a, a < 1 → ∀ b, b < 1 → a ≠ b → (TX10 a).2.1 ≠ (TX10 b).2.1 := by decide +kernel
theorem tyX10_ok : ∀ k, k < 1 → parseFieldDescriptor (TX10 k).2.2.1 = some (tyX10 k) := by decide +kernel
abbrev cX10_kind : ByteArray := prog_5_method_2_code
def yX10_kind : MethodName := ⟨RX10, "kind", "()I"⟩
theorem dX10_kind_0 : decode cX10_kind 0 = .ok (.iconst 4, 1) := by decide +kernel
theorem dX10_kind_1 : decode cX10_kind 1 = .ok (.ireturn, 1) := by decide +kernel
abbrev cX10_init : ByteArray := prog_5_method_1_code
def yX10_init : MethodName := ⟨RX10, "<init>", "(I)V"⟩
def dkwX10_init_0 : List UInt8 := [42, 27, 183, 0, 3, 177]
abbrev dktX10_init_0 : List UInt8 := dkwX10_init_0 ++ []
theorem dksX10_init_0 : cX10_init.data.toList.drop 0 = dktX10_init_0 := by decide +kernel
theorem dX10_init_0 : decode cX10_init 0 = .ok (.aload_n 0, 1) := dk_42 (dk_at dksX10_init_0 0 rfl rfl)
theorem dX10_init_1 : decode cX10_init 1 = .ok (.iload_n 1, 1) := dk_27 (dk_at dksX10_init_0 1 rfl rfl)
theorem dX10_init_2 : decode cX10_init 2 = .ok (.invokespecial 3, 3) := dk_183 0 3 (dk_at dksX10_init_0 2 rfl rfl)
theorem dX10_init_5 : decode cX10_init 5 = .ok (.return_, 1) := dk_177 (dk_at dksX10_init_0 5 rfl rfl)
abbrev cX10_gets : ByteArray := prog_5_method_4_code
def yX10_gets : MethodName := ⟨RX10, "gets", "(LThreeSizes$Wall;II)I"⟩
def dkwX10_gets_2 : List UInt8 := [132, 5, 1, 167, 255, 214, 21, 4, 172]
abbrev dktX10_gets_2 : List UInt8 := dkwX10_gets_2 ++ []
def dkwX10_gets_1 : List UInt8 := [21, 4, 2, 159, 0, 15, 42, 29, 21, 5, 21, 4, 182, 0, 15, 153, 0, 7, 21, 5, 54, 4]
abbrev dktX10_gets_1 : List UInt8 := dkwX10_gets_1 ++ dktX10_gets_2
def dkwX10_gets_0 : List UInt8 := [2, 54, 4, 3, 54, 5, 21, 5, 6, 162, 0, 42, 43, 28, 21, 5, 29, 182, 0, 9, 153, 0, 25]
abbrev dktX10_gets_0 : List UInt8 := dkwX10_gets_0 ++ dktX10_gets_1
theorem dksX10_gets_0 : cX10_gets.data.toList.drop 0 = dktX10_gets_0 := by decide +kernel
theorem dksX10_gets_1 : cX10_gets.data.toList.drop 23 = dktX10_gets_1 := dk_seg dksX10_gets_0 23 rfl rfl
theorem dksX10_gets_2 : cX10_gets.data.toList.drop 45 = dktX10_gets_2 := dk_seg dksX10_gets_1 22 rfl rfl
theorem dX10_gets_0 : decode cX10_gets 0 = .ok (.iconst (-1), 1) := dk_2 (dk_at dksX10_gets_0 0 rfl rfl)
theorem dX10_gets_1 : decode cX10_gets 1 = .ok (.istore 4, 2) := dk_54 4 (dk_at dksX10_gets_0 1 rfl rfl)
theorem dX10_gets_3 : decode cX10_gets 3 = .ok (.iconst 0, 1) := dk_3 (dk_at dksX10_gets_0 3 rfl rfl)
theorem dX10_gets_4 : decode cX10_gets 4 = .ok (.istore 5, 2) := dk_54 5 (dk_at dksX10_gets_0 4 rfl rfl)
theorem dX10_gets_6 : decode cX10_gets 6 = .ok (.iload 5, 2) := dk_21 5 (dk_at dksX10_gets_0 6 rfl rfl)
theorem dX10_gets_8 : decode cX10_gets 8 = .ok (.iconst 3, 1) := dk_6 (dk_at dksX10_gets_0 8 rfl rfl)
theorem dX10_gets_9 : decode cX10_gets 9 = .ok (.if_icmp .ge 42, 3) := dk_162 0 42 (dk_at dksX10_gets_0 9 rfl rfl)
theorem dX10_gets_12 : decode cX10_gets 12 = .ok (.aload_n 1, 1) := dk_43 (dk_at dksX10_gets_0 12 rfl rfl)
theorem dX10_gets_13 : decode cX10_gets 13 = .ok (.iload_n 2, 1) := dk_28 (dk_at dksX10_gets_0 13 rfl rfl)
theorem dX10_gets_14 : decode cX10_gets 14 = .ok (.iload 5, 2) := dk_21 5 (dk_at dksX10_gets_0 14 rfl rfl)
theorem dX10_gets_16 : decode cX10_gets 16 = .ok (.iload_n 3, 1) := dk_29 (dk_at dksX10_gets_0 16 rfl rfl)
theorem dX10_gets_17 : decode cX10_gets 17 = .ok (.invokevirtual 9, 3) := dk_182 0 9 (dk_at dksX10_gets_0 17 rfl rfl)
theorem dX10_gets_20 : decode cX10_gets 20 = .ok (.ifCond .eq 25, 3) := dk_153 0 25 (dk_at dksX10_gets_0 20 rfl rfl)
theorem dX10_gets_23 : decode cX10_gets 23 = .ok (.iload 4, 2) := dk_21 4 (dk_at dksX10_gets_1 0 rfl rfl)
theorem dX10_gets_25 : decode cX10_gets 25 = .ok (.iconst (-1), 1) := dk_2 (dk_at dksX10_gets_1 2 rfl rfl)
theorem dX10_gets_26 : decode cX10_gets 26 = .ok (.if_icmp .eq 15, 3) := dk_159 0 15 (dk_at dksX10_gets_1 3 rfl rfl)
theorem dX10_gets_29 : decode cX10_gets 29 = .ok (.aload_n 0, 1) := dk_42 (dk_at dksX10_gets_1 6 rfl rfl)
theorem dX10_gets_30 : decode cX10_gets 30 = .ok (.iload_n 3, 1) := dk_29 (dk_at dksX10_gets_1 7 rfl rfl)
theorem dX10_gets_31 : decode cX10_gets 31 = .ok (.iload 5, 2) := dk_21 5 (dk_at dksX10_gets_1 8 rfl rfl)
theorem dX10_gets_33 : decode cX10_gets 33 = .ok (.iload 4, 2) := dk_21 4 (dk_at dksX10_gets_1 10 rfl rfl)
theorem dX10_gets_35 : decode cX10_gets 35 = .ok (.invokevirtual 15, 3) := dk_182 0 15 (dk_at dksX10_gets_1 12 rfl rfl)
theorem dX10_gets_38 : decode cX10_gets 38 = .ok (.ifCond .eq 7, 3) := dk_153 0 7 (dk_at dksX10_gets_1 15 rfl rfl)
theorem dX10_gets_41 : decode cX10_gets 41 = .ok (.iload 5, 2) := dk_21 5 (dk_at dksX10_gets_1 18 rfl rfl)
theorem dX10_gets_43 : decode cX10_gets 43 = .ok (.istore 4, 2) := dk_54 4 (dk_at dksX10_gets_1 20 rfl rfl)
theorem dX10_gets_45 : decode cX10_gets 45 = .ok (.iinc 5 1, 3) := dk_132 5 1 (dk_at dksX10_gets_2 0 rfl rfl)
theorem dX10_gets_48 : decode cX10_gets 48 = .ok (.goto (-42), 3) := dk_167 255 214 (dk_at dksX10_gets_2 3 rfl rfl)
theorem dX10_gets_51 : decode cX10_gets 51 = .ok (.iload 4, 2) := dk_21 4 (dk_at dksX10_gets_2 6 rfl rfl)
theorem dX10_gets_53 : decode cX10_gets 53 = .ok (.ireturn, 1) := dk_172 (dk_at dksX10_gets_2 8 rfl rfl)
abbrev cX10_isRather : ByteArray := prog_5_method_3_code
def yX10_isRather : MethodName := ⟨RX10, "isRather", "(III)Z"⟩
theorem dX10_isRather_0 : decode cX10_isRather 0 = .ok (.iconst 1, 1) := by decide +kernel
theorem dX10_isRather_1 : decode cX10_isRather 1 = .ok (.ireturn, 1) := by decide +kernel
theorem q86 : (Jvm.Cond.initialized "ThreeSizes$Great") ∈ lw_all := lw_g (lw_at lw_m1 21 rfl) rfl
theorem q490 : (Jvm.Cond.selects "ThreeSizes$Great" ({ cls := "ThreeSizes$Rule", name := "kind", desc := "()I" } : Jvm.MethodName) ({ cls := "ThreeSizes$Great", name := "kind", desc := "()I" } : Jvm.MethodName)) ∈ lw_all := lw_g (lw_at lw_m2 185 rfl) rfl
theorem q491 : (Jvm.Cond.instanceMethod ({ cls := "ThreeSizes$Great", name := "kind", desc := "()I" } : Jvm.MethodName)) ∈ lw_all := lw_g (lw_at lw_m2 186 rfl) rfl
theorem q492 : (Jvm.Cond.code ({ cls := "ThreeSizes$Great", name := "kind", desc := "()I" } : Jvm.MethodName) prog_5_method_2_code (1 : Nat) (Option.some Jvm.ClassFile.FieldType.int)) ∈ lw_all := lw_g (lw_at lw_m2 187 rfl) rfl
theorem q549 : (Jvm.Cond.instantiable "ThreeSizes$Great" (1 : Nat)) ∈ lw_all := lw_g (lw_at lw_m3 4 rfl) rfl
theorem q551 : (Jvm.Cond.instanceMethod ({ cls := "ThreeSizes$Great", name := "<init>", desc := "(I)V" } : Jvm.MethodName)) ∈ lw_all := lw_g (lw_at lw_m3 6 rfl) rfl
theorem q552 : (Jvm.Cond.code ({ cls := "ThreeSizes$Great", name := "<init>", desc := "(I)V" } : Jvm.MethodName) prog_5_method_1_code (2 : Nat) (Option.none : Option Jvm.ClassFile.FieldType)) ∈ lw_all := lw_g (lw_at lw_m3 7 rfl) rfl
theorem q553 : (Jvm.Cond.methodLink "ThreeSizes$Great" (3 : Nat) ({ cls := "ThreeSizes$Rule", name := "<init>", desc := "(I)V" } : Jvm.MethodName)) ∈ lw_all := lw_g (lw_at lw_m3 8 rfl) rfl
theorem q554 : (Jvm.Cond.laysFinal "ThreeSizes$Great" "ThreeSizes$Rule" "a" "I") ∈ lw_all := lw_g (lw_at lw_m3 9 rfl) rfl
theorem q555 : (Jvm.Cond.superclass "ThreeSizes$Great" "ThreeSizes$Rule") ∈ lw_all := lw_g (lw_at lw_m3 10 rfl) rfl
theorem q607 : (Jvm.Cond.selects "ThreeSizes$Great" ({ cls := "ThreeSizes$Rule", name := "learns", desc := "(LThreeSizes$Wall;)V" } : Jvm.MethodName) ({ cls := "ThreeSizes$Rule", name := "learns", desc := "(LThreeSizes$Wall;)V" } : Jvm.MethodName)) ∈ lw_all := lw_g (lw_at lw_m3 62 rfl) rfl
theorem q701 : (Jvm.Cond.instanceMethod ({ cls := "ThreeSizes$Great", name := "gets", desc := "(LThreeSizes$Wall;II)I" } : Jvm.MethodName)) ∈ lw_all := lw_g (lw_at lw_m3 156 rfl) rfl
theorem q702 : (Jvm.Cond.code ({ cls := "ThreeSizes$Great", name := "gets", desc := "(LThreeSizes$Wall;II)I" } : Jvm.MethodName) prog_5_method_4_code (6 : Nat) (Option.some Jvm.ClassFile.FieldType.int)) ∈ lw_all := lw_g (lw_at lw_m3 157 rfl) rfl
theorem q703 : (Jvm.Cond.methodLink "ThreeSizes$Great" (9 : Nat) ({ cls := "ThreeSizes$Wall", name := "fits", desc := "(III)Z" } : Jvm.MethodName)) ∈ lw_all := lw_g (lw_at lw_m3 158 rfl) rfl
theorem q704 : (Jvm.Cond.methodLink "ThreeSizes$Great" (15 : Nat) ({ cls := "ThreeSizes$Great", name := "isRather", desc := "(III)Z" } : Jvm.MethodName)) ∈ lw_all := lw_g (lw_at lw_m3 159 rfl) rfl
theorem q705 : (Jvm.Cond.instanceMethod ({ cls := "ThreeSizes$Great", name := "isRather", desc := "(III)Z" } : Jvm.MethodName)) ∈ lw_all := lw_g (lw_at lw_m3 160 rfl) rfl
theorem q706 : (Jvm.Cond.selects "ThreeSizes$Great" ({ cls := "ThreeSizes$Great", name := "isRather", desc := "(III)Z" } : Jvm.MethodName) ({ cls := "ThreeSizes$Great", name := "isRather", desc := "(III)Z" } : Jvm.MethodName)) ∈ lw_all := lw_g (lw_at lw_m3 161 rfl) rfl
theorem q707 : (Jvm.Cond.sameMethod "ThreeSizes$Great" "ThreeSizes$Great" "isRather" "(III)Z") ∈ lw_all := lw_g (lw_at lw_m3 162 rfl) rfl
theorem q712 : (Jvm.Cond.code ({ cls := "ThreeSizes$Great", name := "isRather", desc := "(III)Z" } : Jvm.MethodName) prog_5_method_3_code (4 : Nat) (Option.some Jvm.ClassFile.FieldType.boolean)) ∈ lw_all := lw_g (lw_at lw_m3 167 rfl) rfl
theorem q714 : (Jvm.Cond.selects "ThreeSizes$Great" ({ cls := "ThreeSizes$Says", name := "gets", desc := "(LThreeSizes$Wall;II)I" } : Jvm.MethodName) ({ cls := "ThreeSizes$Great", name := "gets", desc := "(LThreeSizes$Wall;II)I" } : Jvm.MethodName)) ∈ lw_all := lw_g (lw_at lw_m3 169 rfl) rfl
theorem q757 : (Jvm.Cond.sameMethod "ThreeSizes$Great" "ThreeSizes$Rule" "says" "(LThreeSizes$Wall;)I") ∈ lw_all := lw_g (lw_at lw_m3 212 rfl) rfl
theorem q759 : (Jvm.Cond.selects "ThreeSizes$Great" ({ cls := "ThreeSizes$Great", name := "says", desc := "(LThreeSizes$Wall;)I" } : Jvm.MethodName) ({ cls := "ThreeSizes$Rule", name := "says", desc := "(LThreeSizes$Wall;)I" } : Jvm.MethodName)) ∈ lw_all := lw_g (lw_at lw_m3 214 rfl) rfl
theorem q1959 : (Jvm.Cond.castable "ThreeSizes$Great" "ThreeSizes$Rule") ∈ lw_tbl := lw_at lw_m8 214 rfl
theorem in_X10 : ∀ w ∈ wsX100, w ∈ lw_all := lw_in wsX100 [554] (by decide +kernel) (by decide +kernel)
/-! ThreeSizes$Even -/
set_option maxRecDepth 100000
def RX11 : String := "ThreeSizes$Even"
def TX11 : u_T := fun k => match k with
  | _ => ("ThreeSizes$Rule", "a", "I", true)
def tyX11 : Nat → FieldType := fun k => match k with
  | _ => .int
abbrev wsX110 : List Cond := u_ws RX11 TX11 1
theorem nmX11 : ∀ a, a < 1 → ∀ b, b < 1 → a ≠ b → (TX11 a).2.1 ≠ (TX11 b).2.1 := by decide +kernel
theorem tyX11_ok : ∀ k, k < 1 → parseFieldDescriptor (TX11 k).2.2.1 = some (tyX11 k) := by decide +kernel
abbrev cX11_kind : ByteArray := prog_3_method_2_code
def yX11_kind : MethodName := ⟨RX11, "kind", "()I"⟩
theorem dX11_kind_0 : decode cX11_kind 0 = .ok (.iconst 5, 1) := by decide +kernel
theorem dX11_kind_1 : decode cX11_kind 1 = .ok (.ireturn, 1) := by decide +kernel
abbrev cX11_init : ByteArray := prog_3_method_1_code
def yX11_init : MethodName := ⟨RX11, "<init>", "(I)V"⟩
def dkwX11_init_0 : List UInt8 := [42, 27, 183, 0, 1, 177]
abbrev dktX11_init_0 : List UInt8 := dkwX11_init_0 ++ []
theorem dksX11_init_0 : cX11_init.data.toList.drop 0 = dktX11_init_0 := by decide +kernel
theorem dX11_init_0 : decode cX11_init 0 = .ok (.aload_n 0, 1) := dk_42 (dk_at dksX11_init_0 0 rfl rfl)
theorem dX11_init_1 : decode cX11_init 1 = .ok (.iload_n 1, 1) := dk_27 (dk_at dksX11_init_0 1 rfl rfl)
theorem dX11_init_2 : decode cX11_init 2 = .ok (.invokespecial 1, 3) := dk_183 0 1 (dk_at dksX11_init_0 2 rfl rfl)
theorem dX11_init_5 : decode cX11_init 5 = .ok (.return_, 1) := dk_177 (dk_at dksX11_init_0 5 rfl rfl)
abbrev cX11_isRather : ByteArray := prog_3_method_3_code
def yX11_isRather : MethodName := ⟨RX11, "isRather", "(III)Z"⟩
def dkwX11_isRather_1 : List UInt8 := [167, 0, 4, 3, 172]
abbrev dktX11_isRather_1 : List UInt8 := dkwX11_isRather_1 ++ []
def dkwX11_isRather_0 : List UInt8 := [42, 27, 28, 29, 183, 0, 7, 153, 0, 20, 27, 28, 184, 0, 11, 27, 29, 184, 0, 11, 161, 0, 7, 4]
abbrev dktX11_isRather_0 : List UInt8 := dkwX11_isRather_0 ++ dktX11_isRather_1
theorem dksX11_isRather_0 : cX11_isRather.data.toList.drop 0 = dktX11_isRather_0 := by decide +kernel
theorem dksX11_isRather_1 : cX11_isRather.data.toList.drop 24 = dktX11_isRather_1 := dk_seg dksX11_isRather_0 24 rfl rfl
theorem dX11_isRather_0 : decode cX11_isRather 0 = .ok (.aload_n 0, 1) := dk_42 (dk_at dksX11_isRather_0 0 rfl rfl)
theorem dX11_isRather_1 : decode cX11_isRather 1 = .ok (.iload_n 1, 1) := dk_27 (dk_at dksX11_isRather_0 1 rfl rfl)
theorem dX11_isRather_2 : decode cX11_isRather 2 = .ok (.iload_n 2, 1) := dk_28 (dk_at dksX11_isRather_0 2 rfl rfl)
theorem dX11_isRather_3 : decode cX11_isRather 3 = .ok (.iload_n 3, 1) := dk_29 (dk_at dksX11_isRather_0 3 rfl rfl)
theorem dX11_isRather_4 : decode cX11_isRather 4 = .ok (.invokespecial 7, 3) := dk_183 0 7 (dk_at dksX11_isRather_0 4 rfl rfl)
theorem dX11_isRather_7 : decode cX11_isRather 7 = .ok (.ifCond .eq 20, 3) := dk_153 0 20 (dk_at dksX11_isRather_0 7 rfl rfl)
theorem dX11_isRather_10 : decode cX11_isRather 10 = .ok (.iload_n 1, 1) := dk_27 (dk_at dksX11_isRather_0 10 rfl rfl)
theorem dX11_isRather_11 : decode cX11_isRather 11 = .ok (.iload_n 2, 1) := dk_28 (dk_at dksX11_isRather_0 11 rfl rfl)
theorem dX11_isRather_12 : decode cX11_isRather 12 = .ok (.invokestatic 11, 3) := dk_184 0 11 (dk_at dksX11_isRather_0 12 rfl rfl)
theorem dX11_isRather_15 : decode cX11_isRather 15 = .ok (.iload_n 1, 1) := dk_27 (dk_at dksX11_isRather_0 15 rfl rfl)
theorem dX11_isRather_16 : decode cX11_isRather 16 = .ok (.iload_n 3, 1) := dk_29 (dk_at dksX11_isRather_0 16 rfl rfl)
theorem dX11_isRather_17 : decode cX11_isRather 17 = .ok (.invokestatic 11, 3) := dk_184 0 11 (dk_at dksX11_isRather_0 17 rfl rfl)
theorem dX11_isRather_20 : decode cX11_isRather 20 = .ok (.if_icmp .lt 7, 3) := dk_161 0 7 (dk_at dksX11_isRather_0 20 rfl rfl)
theorem dX11_isRather_23 : decode cX11_isRather 23 = .ok (.iconst 1, 1) := dk_4 (dk_at dksX11_isRather_0 23 rfl rfl)
theorem dX11_isRather_24 : decode cX11_isRather 24 = .ok (.goto 4, 3) := dk_167 0 4 (dk_at dksX11_isRather_1 0 rfl rfl)
theorem dX11_isRather_27 : decode cX11_isRather 27 = .ok (.iconst 0, 1) := dk_3 (dk_at dksX11_isRather_1 3 rfl rfl)
theorem dX11_isRather_28 : decode cX11_isRather 28 = .ok (.ireturn, 1) := dk_172 (dk_at dksX11_isRather_1 4 rfl rfl)
theorem q87 : (Jvm.Cond.initialized "ThreeSizes$Even") ∈ lw_all := lw_g (lw_at lw_m1 22 rfl) rfl
theorem q487 : (Jvm.Cond.selects "ThreeSizes$Even" ({ cls := "ThreeSizes$Rule", name := "kind", desc := "()I" } : Jvm.MethodName) ({ cls := "ThreeSizes$Even", name := "kind", desc := "()I" } : Jvm.MethodName)) ∈ lw_all := lw_g (lw_at lw_m2 182 rfl) rfl
theorem q488 : (Jvm.Cond.instanceMethod ({ cls := "ThreeSizes$Even", name := "kind", desc := "()I" } : Jvm.MethodName)) ∈ lw_all := lw_g (lw_at lw_m2 183 rfl) rfl
theorem q489 : (Jvm.Cond.code ({ cls := "ThreeSizes$Even", name := "kind", desc := "()I" } : Jvm.MethodName) prog_3_method_2_code (1 : Nat) (Option.some Jvm.ClassFile.FieldType.int)) ∈ lw_all := lw_g (lw_at lw_m2 184 rfl) rfl
theorem q557 : (Jvm.Cond.instantiable "ThreeSizes$Even" (1 : Nat)) ∈ lw_all := lw_g (lw_at lw_m3 12 rfl) rfl
theorem q559 : (Jvm.Cond.instanceMethod ({ cls := "ThreeSizes$Even", name := "<init>", desc := "(I)V" } : Jvm.MethodName)) ∈ lw_all := lw_g (lw_at lw_m3 14 rfl) rfl
theorem q560 : (Jvm.Cond.code ({ cls := "ThreeSizes$Even", name := "<init>", desc := "(I)V" } : Jvm.MethodName) prog_3_method_1_code (2 : Nat) (Option.none : Option Jvm.ClassFile.FieldType)) ∈ lw_all := lw_g (lw_at lw_m3 15 rfl) rfl
theorem q561 : (Jvm.Cond.methodLink "ThreeSizes$Even" (1 : Nat) ({ cls := "ThreeSizes$Great", name := "<init>", desc := "(I)V" } : Jvm.MethodName)) ∈ lw_all := lw_g (lw_at lw_m3 16 rfl) rfl
theorem q562 : (Jvm.Cond.laysFinal "ThreeSizes$Even" "ThreeSizes$Rule" "a" "I") ∈ lw_all := lw_g (lw_at lw_m3 17 rfl) rfl
theorem q563 : (Jvm.Cond.superclass "ThreeSizes$Even" "ThreeSizes$Great") ∈ lw_all := lw_g (lw_at lw_m3 18 rfl) rfl
theorem q606 : (Jvm.Cond.selects "ThreeSizes$Even" ({ cls := "ThreeSizes$Rule", name := "learns", desc := "(LThreeSizes$Wall;)V" } : Jvm.MethodName) ({ cls := "ThreeSizes$Rule", name := "learns", desc := "(LThreeSizes$Wall;)V" } : Jvm.MethodName)) ∈ lw_all := lw_g (lw_at lw_m3 61 rfl) rfl
theorem q700 : (Jvm.Cond.selects "ThreeSizes$Even" ({ cls := "ThreeSizes$Says", name := "gets", desc := "(LThreeSizes$Wall;II)I" } : Jvm.MethodName) ({ cls := "ThreeSizes$Great", name := "gets", desc := "(LThreeSizes$Wall;II)I" } : Jvm.MethodName)) ∈ lw_all := lw_g (lw_at lw_m3 155 rfl) rfl
theorem q708 : (Jvm.Cond.selects "ThreeSizes$Even" ({ cls := "ThreeSizes$Great", name := "isRather", desc := "(III)Z" } : Jvm.MethodName) ({ cls := "ThreeSizes$Even", name := "isRather", desc := "(III)Z" } : Jvm.MethodName)) ∈ lw_all := lw_g (lw_at lw_m3 163 rfl) rfl
theorem q709 : (Jvm.Cond.instanceMethod ({ cls := "ThreeSizes$Even", name := "isRather", desc := "(III)Z" } : Jvm.MethodName)) ∈ lw_all := lw_g (lw_at lw_m3 164 rfl) rfl
theorem q710 : (Jvm.Cond.code ({ cls := "ThreeSizes$Even", name := "isRather", desc := "(III)Z" } : Jvm.MethodName) prog_3_method_3_code (4 : Nat) (Option.some Jvm.ClassFile.FieldType.boolean)) ∈ lw_all := lw_g (lw_at lw_m3 165 rfl) rfl
theorem q711 : (Jvm.Cond.methodLink "ThreeSizes$Even" (7 : Nat) ({ cls := "ThreeSizes$Great", name := "isRather", desc := "(III)Z" } : Jvm.MethodName)) ∈ lw_all := lw_g (lw_at lw_m3 166 rfl) rfl
theorem q713 : (Jvm.Cond.methodLinkNest "ThreeSizes$Even" (11 : Nat) ({ cls := "ThreeSizes", name := "freeOf", desc := "(II)I" } : Jvm.MethodName) "ThreeSizes") ∈ lw_tbl := lw_at lw_m3 168 rfl
theorem q758 : (Jvm.Cond.selects "ThreeSizes$Even" ({ cls := "ThreeSizes$Great", name := "says", desc := "(LThreeSizes$Wall;)I" } : Jvm.MethodName) ({ cls := "ThreeSizes$Rule", name := "says", desc := "(LThreeSizes$Wall;)I" } : Jvm.MethodName)) ∈ lw_all := lw_g (lw_at lw_m3 213 rfl) rfl
theorem q761 : (Jvm.Cond.sameMethod "ThreeSizes$Even" "ThreeSizes$Rule" "says" "(LThreeSizes$Wall;)I") ∈ lw_all := lw_g (lw_at lw_m3 216 rfl) rfl
theorem q762 : (Jvm.Cond.selects "ThreeSizes$Even" ({ cls := "ThreeSizes$Even", name := "says", desc := "(LThreeSizes$Wall;)I" } : Jvm.MethodName) ({ cls := "ThreeSizes$Rule", name := "says", desc := "(LThreeSizes$Wall;)I" } : Jvm.MethodName)) ∈ lw_all := lw_g (lw_at lw_m3 217 rfl) rfl
theorem q1958 : (Jvm.Cond.castable "ThreeSizes$Even" "ThreeSizes$Rule") ∈ lw_tbl := lw_at lw_m8 213 rfl
theorem q1966 : (Jvm.Cond.castable "ThreeSizes$Even" "ThreeSizes$Great") ∈ lw_tbl := lw_at lw_m8 221 rfl
theorem in_X11 : ∀ w ∈ wsX110, w ∈ lw_all := lw_in wsX110 [562] (by decide +kernel) (by decide +kernel)
/-! ThreeSizes$Wise -/
set_option maxRecDepth 100000
def RX12 : String := "ThreeSizes$Wise"
def TX12 : u_T := fun k => match k with
  | 0 => ("ThreeSizes$Rule", "a", "I", true)
  | _ => ("ThreeSizes$Wise", "then", "[J", true)
def tyX12 : Nat → FieldType := fun k => match k with
  | 0 => .int
  | _ => .array .long
abbrev wsX120 : List Cond := u_ws RX12 TX12 2
theorem nmX12 : ∀ a, a < 2 → ∀ b, b < 2 → a ≠ b → (TX12 a).2.1 ≠ (TX12 b).2.1 := by decide +kernel
theorem tyX12_ok : ∀ k, k < 2 → parseFieldDescriptor (TX12 k).2.2.1 = some (tyX12 k) := by decide +kernel
abbrev cX12_kind : ByteArray := prog_16_method_2_code
def yX12_kind : MethodName := ⟨RX12, "kind", "()I"⟩
theorem dX12_kind_0 : decode cX12_kind 0 = .ok (.bipush 6, 2) := by decide +kernel
theorem dX12_kind_2 : decode cX12_kind 2 = .ok (.ireturn, 1) := by decide +kernel
abbrev cX12_init : ByteArray := prog_16_method_1_code
def yX12_init : MethodName := ⟨RX12, "<init>", "(I)V"⟩
def dkwX12_init_0 : List UInt8 := [42, 27, 183, 0, 3, 42, 16, 125, 188, 11, 181, 0, 9, 177]
abbrev dktX12_init_0 : List UInt8 := dkwX12_init_0 ++ []
theorem dksX12_init_0 : cX12_init.data.toList.drop 0 = dktX12_init_0 := by decide +kernel
theorem dX12_init_0 : decode cX12_init 0 = .ok (.aload_n 0, 1) := dk_42 (dk_at dksX12_init_0 0 rfl rfl)
theorem dX12_init_1 : decode cX12_init 1 = .ok (.iload_n 1, 1) := dk_27 (dk_at dksX12_init_0 1 rfl rfl)
theorem dX12_init_2 : decode cX12_init 2 = .ok (.invokespecial 3, 3) := dk_183 0 3 (dk_at dksX12_init_0 2 rfl rfl)
theorem dX12_init_5 : decode cX12_init 5 = .ok (.aload_n 0, 1) := dk_42 (dk_at dksX12_init_0 5 rfl rfl)
theorem dX12_init_6 : decode cX12_init 6 = .ok (.bipush 125, 2) := dk_16 125 (dk_at dksX12_init_0 6 rfl rfl)
theorem dX12_init_8 : decode cX12_init 8 = .ok (.newarray .long, 2) := dk_188_11 (dk_at dksX12_init_0 8 rfl rfl)
theorem dX12_init_10 : decode cX12_init 10 = .ok (.putfield 9, 3) := dk_181 0 9 (dk_at dksX12_init_0 10 rfl rfl)
theorem dX12_init_13 : decode cX12_init 13 = .ok (.return_, 1) := dk_177 (dk_at dksX12_init_0 13 rfl rfl)
abbrev cX12_learns : ByteArray := prog_16_method_5_code
def yX12_learns : MethodName := ⟨RX12, "learns", "(LThreeSizes$Wall;)V"⟩
def dkwX12_learns_1 : List UInt8 := [184, 0, 38, 177]
abbrev dktX12_learns_1 : List UInt8 := dkwX12_learns_1 ++ []
def dkwX12_learns_0 : List UInt8 := [187, 0, 29, 89, 43, 1, 183, 0, 31, 42, 182, 0, 25, 182, 0, 34, 3, 42, 180, 0, 9, 3, 16, 125]
abbrev dktX12_learns_0 : List UInt8 := dkwX12_learns_0 ++ dktX12_learns_1
theorem dksX12_learns_0 : cX12_learns.data.toList.drop 0 = dktX12_learns_0 := by decide +kernel
theorem dksX12_learns_1 : cX12_learns.data.toList.drop 24 = dktX12_learns_1 := dk_seg dksX12_learns_0 24 rfl rfl
theorem dX12_learns_0 : decode cX12_learns 0 = .ok (.new 29, 3) := dk_187 0 29 (dk_at dksX12_learns_0 0 rfl rfl)
theorem dX12_learns_3 : decode cX12_learns 3 = .ok (.dup, 1) := dk_89 (dk_at dksX12_learns_0 3 rfl rfl)
theorem dX12_learns_4 : decode cX12_learns 4 = .ok (.aload_n 1, 1) := dk_43 (dk_at dksX12_learns_0 4 rfl rfl)
theorem dX12_learns_5 : decode cX12_learns 5 = .ok (.aconst_null, 1) := dk_1 (dk_at dksX12_learns_0 5 rfl rfl)
theorem dX12_learns_6 : decode cX12_learns 6 = .ok (.invokespecial 31, 3) := dk_183 0 31 (dk_at dksX12_learns_0 6 rfl rfl)
theorem dX12_learns_9 : decode cX12_learns 9 = .ok (.aload_n 0, 1) := dk_42 (dk_at dksX12_learns_0 9 rfl rfl)
theorem dX12_learns_10 : decode cX12_learns 10 = .ok (.invokevirtual 25, 3) := dk_182 0 25 (dk_at dksX12_learns_0 10 rfl rfl)
theorem dX12_learns_13 : decode cX12_learns 13 = .ok (.invokevirtual 34, 3) := dk_182 0 34 (dk_at dksX12_learns_0 13 rfl rfl)
theorem dX12_learns_16 : decode cX12_learns 16 = .ok (.iconst 0, 1) := dk_3 (dk_at dksX12_learns_0 16 rfl rfl)
theorem dX12_learns_17 : decode cX12_learns 17 = .ok (.aload_n 0, 1) := dk_42 (dk_at dksX12_learns_0 17 rfl rfl)
theorem dX12_learns_18 : decode cX12_learns 18 = .ok (.getfield 9, 3) := dk_180 0 9 (dk_at dksX12_learns_0 18 rfl rfl)
theorem dX12_learns_21 : decode cX12_learns 21 = .ok (.iconst 0, 1) := dk_3 (dk_at dksX12_learns_0 21 rfl rfl)
theorem dX12_learns_22 : decode cX12_learns 22 = .ok (.bipush 125, 2) := dk_16 125 (dk_at dksX12_learns_0 22 rfl rfl)
theorem dX12_learns_24 : decode cX12_learns 24 = .ok (.invokestatic 38, 3) := dk_184 0 38 (dk_at dksX12_learns_1 0 rfl rfl)
theorem dX12_learns_27 : decode cX12_learns 27 = .ok (.return_, 1) := dk_177 (dk_at dksX12_learns_1 3 rfl rfl)
abbrev cX12_hours : ByteArray := prog_16_method_3_code
def yX12_hours : MethodName := ⟨RX12, "hours", "()I"⟩
def dkwX12_hours_0 : List UInt8 := [16, 20, 42, 180, 0, 15, 184, 0, 19, 172]
abbrev dktX12_hours_0 : List UInt8 := dkwX12_hours_0 ++ []
theorem dksX12_hours_0 : cX12_hours.data.toList.drop 0 = dktX12_hours_0 := by decide +kernel
theorem dX12_hours_0 : decode cX12_hours 0 = .ok (.bipush 20, 2) := dk_16 20 (dk_at dksX12_hours_0 0 rfl rfl)
theorem dX12_hours_2 : decode cX12_hours 2 = .ok (.aload_n 0, 1) := dk_42 (dk_at dksX12_hours_0 2 rfl rfl)
theorem dX12_hours_3 : decode cX12_hours 3 = .ok (.getfield 15, 3) := dk_180 0 15 (dk_at dksX12_hours_0 3 rfl rfl)
theorem dX12_hours_6 : decode cX12_hours 6 = .ok (.invokestatic 19, 3) := dk_184 0 19 (dk_at dksX12_hours_0 6 rfl rfl)
theorem dX12_hours_9 : decode cX12_hours 9 = .ok (.ireturn, 1) := dk_172 (dk_at dksX12_hours_0 9 rfl rfl)
abbrev cX12_gets : ByteArray := prog_16_method_6_code
def yX12_gets : MethodName := ⟨RX12, "gets", "(LThreeSizes$Wall;II)I"⟩
def dkwX12_gets_0 : List UInt8 := [43, 28, 29, 42, 180, 0, 9, 184, 0, 44, 172]
abbrev dktX12_gets_0 : List UInt8 := dkwX12_gets_0 ++ []
theorem dksX12_gets_0 : cX12_gets.data.toList.drop 0 = dktX12_gets_0 := by decide +kernel
theorem dX12_gets_0 : decode cX12_gets 0 = .ok (.aload_n 1, 1) := dk_43 (dk_at dksX12_gets_0 0 rfl rfl)
theorem dX12_gets_1 : decode cX12_gets 1 = .ok (.iload_n 2, 1) := dk_28 (dk_at dksX12_gets_0 1 rfl rfl)
theorem dX12_gets_2 : decode cX12_gets 2 = .ok (.iload_n 3, 1) := dk_29 (dk_at dksX12_gets_0 2 rfl rfl)
theorem dX12_gets_3 : decode cX12_gets 3 = .ok (.aload_n 0, 1) := dk_42 (dk_at dksX12_gets_0 3 rfl rfl)
theorem dX12_gets_4 : decode cX12_gets 4 = .ok (.getfield 9, 3) := dk_180 0 9 (dk_at dksX12_gets_0 4 rfl rfl)
theorem dX12_gets_7 : decode cX12_gets 7 = .ok (.invokestatic 44, 3) := dk_184 0 44 (dk_at dksX12_gets_0 7 rfl rfl)
theorem dX12_gets_10 : decode cX12_gets 10 = .ok (.ireturn, 1) := dk_172 (dk_at dksX12_gets_0 10 rfl rfl)
abbrev cX12_says : ByteArray := prog_16_method_4_code
def yX12_says : MethodName := ⟨RX12, "says", "(LThreeSizes$Wall;)I"⟩
theorem dX12_says_0 : decode cX12_says 0 = .ok (.aload_n 0, 1) := by decide +kernel
theorem dX12_says_1 : decode cX12_says 1 = .ok (.invokevirtual 25, 3) := by decide +kernel
theorem dX12_says_4 : decode cX12_says 4 = .ok (.ireturn, 1) := by decide +kernel
theorem q88 : (Jvm.Cond.initialized "ThreeSizes$Wise") ∈ lw_all := lw_g (lw_at lw_m1 23 rfl) rfl
theorem q502 : (Jvm.Cond.selects "ThreeSizes$Wise" ({ cls := "ThreeSizes$Rule", name := "kind", desc := "()I" } : Jvm.MethodName) ({ cls := "ThreeSizes$Wise", name := "kind", desc := "()I" } : Jvm.MethodName)) ∈ lw_all := lw_g (lw_at lw_m2 197 rfl) rfl
theorem q503 : (Jvm.Cond.instanceMethod ({ cls := "ThreeSizes$Wise", name := "kind", desc := "()I" } : Jvm.MethodName)) ∈ lw_all := lw_g (lw_at lw_m2 198 rfl) rfl
theorem q504 : (Jvm.Cond.code ({ cls := "ThreeSizes$Wise", name := "kind", desc := "()I" } : Jvm.MethodName) prog_16_method_2_code (1 : Nat) (Option.some Jvm.ClassFile.FieldType.int)) ∈ lw_all := lw_g (lw_at lw_m2 199 rfl) rfl
theorem q522 : (Jvm.Cond.fieldLink "ThreeSizes$Wise" (15 : Nat) "ThreeSizes$Wise" "a" "I") ∈ lw_all := lw_g (lw_at lw_m2 217 rfl) rfl
theorem q523 : (Jvm.Cond.sameField "ThreeSizes$Wise" "ThreeSizes$Rule" "a" "I") ∈ lw_all := lw_g (lw_at lw_m2 218 rfl) rfl
theorem q565 : (Jvm.Cond.instantiable "ThreeSizes$Wise" (2 : Nat)) ∈ lw_all := lw_g (lw_at lw_m3 20 rfl) rfl
theorem q567 : (Jvm.Cond.instanceMethod ({ cls := "ThreeSizes$Wise", name := "<init>", desc := "(I)V" } : Jvm.MethodName)) ∈ lw_all := lw_g (lw_at lw_m3 22 rfl) rfl
theorem q568 : (Jvm.Cond.code ({ cls := "ThreeSizes$Wise", name := "<init>", desc := "(I)V" } : Jvm.MethodName) prog_16_method_1_code (2 : Nat) (Option.none : Option Jvm.ClassFile.FieldType)) ∈ lw_all := lw_g (lw_at lw_m3 23 rfl) rfl
theorem q569 : (Jvm.Cond.methodLink "ThreeSizes$Wise" (3 : Nat) ({ cls := "ThreeSizes$Rule", name := "<init>", desc := "(I)V" } : Jvm.MethodName)) ∈ lw_all := lw_g (lw_at lw_m3 24 rfl) rfl
theorem q570 : (Jvm.Cond.fieldLink "ThreeSizes$Wise" (9 : Nat) "ThreeSizes$Wise" "then" "[J") ∈ lw_all := lw_g (lw_at lw_m3 25 rfl) rfl
theorem q571 : (Jvm.Cond.laysFinal "ThreeSizes$Wise" "ThreeSizes$Wise" "then" "[J") ∈ lw_all := lw_g (lw_at lw_m3 26 rfl) rfl
theorem q572 : (Jvm.Cond.soleField "ThreeSizes$Wise" "then") ∈ lw_all := lw_g (lw_at lw_m3 27 rfl) rfl
theorem q573 : (Jvm.Cond.laysFinal "ThreeSizes$Wise" "ThreeSizes$Rule" "a" "I") ∈ lw_all := lw_g (lw_at lw_m3 28 rfl) rfl
theorem q574 : (Jvm.Cond.superclass "ThreeSizes$Wise" "ThreeSizes$Rule") ∈ lw_all := lw_g (lw_at lw_m3 29 rfl) rfl
theorem q611 : (Jvm.Cond.selects "ThreeSizes$Wise" ({ cls := "ThreeSizes$Rule", name := "learns", desc := "(LThreeSizes$Wall;)V" } : Jvm.MethodName) ({ cls := "ThreeSizes$Wise", name := "learns", desc := "(LThreeSizes$Wall;)V" } : Jvm.MethodName)) ∈ lw_all := lw_g (lw_at lw_m3 66 rfl) rfl
theorem q612 : (Jvm.Cond.instanceMethod ({ cls := "ThreeSizes$Wise", name := "learns", desc := "(LThreeSizes$Wall;)V" } : Jvm.MethodName)) ∈ lw_all := lw_g (lw_at lw_m3 67 rfl) rfl
theorem q613 : (Jvm.Cond.code ({ cls := "ThreeSizes$Wise", name := "learns", desc := "(LThreeSizes$Wall;)V" } : Jvm.MethodName) prog_16_method_5_code (2 : Nat) (Option.none : Option Jvm.ClassFile.FieldType)) ∈ lw_all := lw_g (lw_at lw_m3 68 rfl) rfl
theorem q614 : (Jvm.Cond.classLink "ThreeSizes$Wise" (29 : Nat) "ThreeSizes$Worths") ∈ lw_all := lw_g (lw_at lw_m3 69 rfl) rfl
theorem q616 : (Jvm.Cond.methodLink "ThreeSizes$Wise" (31 : Nat) ({ cls := "ThreeSizes$Worths", name := "<init>", desc := "(LThreeSizes$Wall;LThreeSizes$Rule;)V" } : Jvm.MethodName)) ∈ lw_all := lw_g (lw_at lw_m3 71 rfl) rfl
theorem q635 : (Jvm.Cond.methodLink "ThreeSizes$Wise" (25 : Nat) ({ cls := "ThreeSizes$Wise", name := "hours", desc := "()I" } : Jvm.MethodName)) ∈ lw_all := lw_g (lw_at lw_m3 90 rfl) rfl
theorem q636 : (Jvm.Cond.instanceMethod ({ cls := "ThreeSizes$Wise", name := "hours", desc := "()I" } : Jvm.MethodName)) ∈ lw_all := lw_g (lw_at lw_m3 91 rfl) rfl
theorem q637 : (Jvm.Cond.selects "ThreeSizes$Wise" ({ cls := "ThreeSizes$Wise", name := "hours", desc := "()I" } : Jvm.MethodName) ({ cls := "ThreeSizes$Wise", name := "hours", desc := "()I" } : Jvm.MethodName)) ∈ lw_all := lw_g (lw_at lw_m3 92 rfl) rfl
theorem q638 : (Jvm.Cond.code ({ cls := "ThreeSizes$Wise", name := "hours", desc := "()I" } : Jvm.MethodName) prog_16_method_3_code (1 : Nat) (Option.some Jvm.ClassFile.FieldType.int)) ∈ lw_all := lw_g (lw_at lw_m3 93 rfl) rfl
theorem q639 : (Jvm.Cond.methodLink "ThreeSizes$Wise" (19 : Nat) ({ cls := "java/lang/Math", name := "min", desc := "(II)I" } : Jvm.MethodName)) ∈ lw_all := lw_g (lw_at lw_m3 94 rfl) rfl
theorem q642 : (Jvm.Cond.methodLink "ThreeSizes$Wise" (34 : Nat) ({ cls := "ThreeSizes$Worths", name := "after", desc := "(I)[J" } : Jvm.MethodName)) ∈ lw_all := lw_g (lw_at lw_m3 97 rfl) rfl
theorem q734 : (Jvm.Cond.selects "ThreeSizes$Wise" ({ cls := "ThreeSizes$Says", name := "gets", desc := "(LThreeSizes$Wall;II)I" } : Jvm.MethodName) ({ cls := "ThreeSizes$Wise", name := "gets", desc := "(LThreeSizes$Wall;II)I" } : Jvm.MethodName)) ∈ lw_all := lw_g (lw_at lw_m3 189 rfl) rfl
theorem q735 : (Jvm.Cond.instanceMethod ({ cls := "ThreeSizes$Wise", name := "gets", desc := "(LThreeSizes$Wall;II)I" } : Jvm.MethodName)) ∈ lw_all := lw_g (lw_at lw_m3 190 rfl) rfl
theorem q736 : (Jvm.Cond.code ({ cls := "ThreeSizes$Wise", name := "gets", desc := "(LThreeSizes$Wall;II)I" } : Jvm.MethodName) prog_16_method_6_code (4 : Nat) (Option.some Jvm.ClassFile.FieldType.int)) ∈ lw_all := lw_g (lw_at lw_m3 191 rfl) rfl
theorem q737 : (Jvm.Cond.methodLinkNest "ThreeSizes$Wise" (44 : Nat) ({ cls := "ThreeSizes", name := "bestOf", desc := "(LThreeSizes$Wall;II[J)I" } : Jvm.MethodName) "ThreeSizes") ∈ lw_tbl := lw_at lw_m3 192 rfl
theorem q740 : (Jvm.Cond.methodLink "ThreeSizes$Wise" (38 : Nat) ({ cls := "java/lang/System", name := "arraycopy", desc := "(Ljava/lang/Object;ILjava/lang/Object;II)V" } : Jvm.MethodName)) ∈ lw_all := lw_g (lw_at lw_m3 195 rfl) rfl
theorem q764 : (Jvm.Cond.instanceMethod ({ cls := "ThreeSizes$Wise", name := "says", desc := "(LThreeSizes$Wall;)I" } : Jvm.MethodName)) ∈ lw_all := lw_g (lw_at lw_m3 219 rfl) rfl
theorem q765 : (Jvm.Cond.selects "ThreeSizes$Wise" ({ cls := "ThreeSizes$Wise", name := "says", desc := "(LThreeSizes$Wall;)I" } : Jvm.MethodName) ({ cls := "ThreeSizes$Wise", name := "says", desc := "(LThreeSizes$Wall;)I" } : Jvm.MethodName)) ∈ lw_all := lw_g (lw_at lw_m3 220 rfl) rfl
theorem q766 : (Jvm.Cond.code ({ cls := "ThreeSizes$Wise", name := "says", desc := "(LThreeSizes$Wall;)I" } : Jvm.MethodName) prog_16_method_4_code (2 : Nat) (Option.some Jvm.ClassFile.FieldType.int)) ∈ lw_all := lw_g (lw_at lw_m3 221 rfl) rfl
theorem q1963 : (Jvm.Cond.castable "ThreeSizes$Wise" "ThreeSizes$Rule") ∈ lw_tbl := lw_at lw_m8 218 rfl
theorem in_X12 : ∀ w ∈ wsX120, w ∈ lw_all := lw_in wsX120 [573, 571] (by decide +kernel) (by decide +kernel)
/-! ThreeSizes$Worths -/
set_option maxRecDepth 100000
def RX13 : String := "ThreeSizes$Worths"
def TX13 : u_T := fun k => match k with
  | 0 => ("ThreeSizes$Worths", "wall", "LThreeSizes$Wall;", true)
  | 1 => ("ThreeSizes$Worths", "rule", "LThreeSizes$Rule;", true)
  | _ => ("ThreeSizes$Worths", "none", "I", true)
def tyX13 : Nat → FieldType := fun k => match k with
  | 0 => .object "ThreeSizes$Wall"
  | 1 => .object "ThreeSizes$Rule"
  | _ => .int
abbrev wsX130 : List Cond := u_ws RX13 TX13 3
theorem nmX13 : ∀ a, a < 3 → ∀ b, b < 3 → a ≠ b → (TX13 a).2.1 ≠ (TX13 b).2.1 := by decide +kernel
theorem tyX13_ok : ∀ k, k < 3 → parseFieldDescriptor (TX13 k).2.2.1 = some (tyX13 k) := by decide +kernel
abbrev cX13_init : ByteArray := prog_17_method_1_code
def yX13_init : MethodName := ⟨RX13, "<init>", "(LThreeSizes$Wall;LThreeSizes$Rule;)V"⟩
def dkwX13_init_1 : List UInt8 := [181, 0, 25, 44, 198, 0, 8, 44, 43, 182, 0, 29, 177]
abbrev dktX13_init_1 : List UInt8 := dkwX13_init_1 ++ []
def dkwX13_init_0 : List UInt8 := [42, 183, 0, 3, 42, 43, 181, 0, 9, 42, 44, 181, 0, 15, 42, 16, 100, 43, 182, 0, 19, 100]
abbrev dktX13_init_0 : List UInt8 := dkwX13_init_0 ++ dktX13_init_1
theorem dksX13_init_0 : cX13_init.data.toList.drop 0 = dktX13_init_0 := by decide +kernel
theorem dksX13_init_1 : cX13_init.data.toList.drop 22 = dktX13_init_1 := dk_seg dksX13_init_0 22 rfl rfl
theorem dX13_init_0 : decode cX13_init 0 = .ok (.aload_n 0, 1) := dk_42 (dk_at dksX13_init_0 0 rfl rfl)
theorem dX13_init_1 : decode cX13_init 1 = .ok (.invokespecial 3, 3) := dk_183 0 3 (dk_at dksX13_init_0 1 rfl rfl)
theorem dX13_init_4 : decode cX13_init 4 = .ok (.aload_n 0, 1) := dk_42 (dk_at dksX13_init_0 4 rfl rfl)
theorem dX13_init_5 : decode cX13_init 5 = .ok (.aload_n 1, 1) := dk_43 (dk_at dksX13_init_0 5 rfl rfl)
theorem dX13_init_6 : decode cX13_init 6 = .ok (.putfield 9, 3) := dk_181 0 9 (dk_at dksX13_init_0 6 rfl rfl)
theorem dX13_init_9 : decode cX13_init 9 = .ok (.aload_n 0, 1) := dk_42 (dk_at dksX13_init_0 9 rfl rfl)
theorem dX13_init_10 : decode cX13_init 10 = .ok (.aload_n 2, 1) := dk_44 (dk_at dksX13_init_0 10 rfl rfl)
theorem dX13_init_11 : decode cX13_init 11 = .ok (.putfield 15, 3) := dk_181 0 15 (dk_at dksX13_init_0 11 rfl rfl)
theorem dX13_init_14 : decode cX13_init 14 = .ok (.aload_n 0, 1) := dk_42 (dk_at dksX13_init_0 14 rfl rfl)
theorem dX13_init_15 : decode cX13_init 15 = .ok (.bipush 100, 2) := dk_16 100 (dk_at dksX13_init_0 15 rfl rfl)
theorem dX13_init_17 : decode cX13_init 17 = .ok (.aload_n 1, 1) := dk_43 (dk_at dksX13_init_0 17 rfl rfl)
theorem dX13_init_18 : decode cX13_init 18 = .ok (.invokevirtual 19, 3) := dk_182 0 19 (dk_at dksX13_init_0 18 rfl rfl)
theorem dX13_init_21 : decode cX13_init 21 = .ok (.isub, 1) := dk_100 (dk_at dksX13_init_0 21 rfl rfl)
theorem dX13_init_22 : decode cX13_init 22 = .ok (.putfield 25, 3) := dk_181 0 25 (dk_at dksX13_init_1 0 rfl rfl)
theorem dX13_init_25 : decode cX13_init 25 = .ok (.aload_n 2, 1) := dk_44 (dk_at dksX13_init_1 3 rfl rfl)
theorem dX13_init_26 : decode cX13_init 26 = .ok (.ifnull 8, 3) := dk_198 0 8 (dk_at dksX13_init_1 4 rfl rfl)
theorem dX13_init_29 : decode cX13_init 29 = .ok (.aload_n 2, 1) := dk_44 (dk_at dksX13_init_1 7 rfl rfl)
theorem dX13_init_30 : decode cX13_init 30 = .ok (.aload_n 1, 1) := dk_43 (dk_at dksX13_init_1 8 rfl rfl)
theorem dX13_init_31 : decode cX13_init 31 = .ok (.invokevirtual 29, 3) := dk_182 0 29 (dk_at dksX13_init_1 9 rfl rfl)
theorem dX13_init_34 : decode cX13_init 34 = .ok (.return_, 1) := dk_177 (dk_at dksX13_init_1 12 rfl rfl)
abbrev cX13_after : ByteArray := prog_17_method_2_code
def yX13_after : MethodName := ⟨RX13, "after", "(I)[J"⟩
def dkwX13_after_3 : List UInt8 := [80, 132, 5, 1, 167, 255, 212, 44, 58, 5, 45, 77, 25, 5, 78, 132, 4, 1, 167, 255, 189, 44, 176]
abbrev dktX13_after_3 : List UInt8 := dkwX13_after_3 ++ []
def dkwX13_after_2 : List UInt8 := [182, 0, 39, 153, 0, 20, 42, 21, 5, 44, 42, 180, 0, 9, 180, 0, 43, 182, 0, 47, 167, 0, 4, 9]
abbrev dktX13_after_2 : List UInt8 := dkwX13_after_2 ++ dktX13_after_3
def dkwX13_after_1 : List UInt8 := [162, 0, 67, 3, 54, 5, 21, 5, 16, 125, 162, 0, 43, 45, 21, 5, 42, 180, 0, 9, 21, 5]
abbrev dktX13_after_1 : List UInt8 := dkwX13_after_1 ++ dktX13_after_2
def dkwX13_after_0 : List UInt8 := [42, 180, 0, 9, 3, 182, 0, 35, 77, 42, 180, 0, 9, 4, 182, 0, 35, 78, 3, 54, 4, 21, 4, 27]
abbrev dktX13_after_0 : List UInt8 := dkwX13_after_0 ++ dktX13_after_1
theorem dksX13_after_0 : cX13_after.data.toList.drop 0 = dktX13_after_0 := by decide +kernel
theorem dksX13_after_1 : cX13_after.data.toList.drop 24 = dktX13_after_1 := dk_seg dksX13_after_0 24 rfl rfl
theorem dksX13_after_2 : cX13_after.data.toList.drop 46 = dktX13_after_2 := dk_seg dksX13_after_1 22 rfl rfl
theorem dksX13_after_3 : cX13_after.data.toList.drop 70 = dktX13_after_3 := dk_seg dksX13_after_2 24 rfl rfl
theorem dX13_after_0 : decode cX13_after 0 = .ok (.aload_n 0, 1) := dk_42 (dk_at dksX13_after_0 0 rfl rfl)
theorem dX13_after_1 : decode cX13_after 1 = .ok (.getfield 9, 3) := dk_180 0 9 (dk_at dksX13_after_0 1 rfl rfl)
theorem dX13_after_4 : decode cX13_after 4 = .ok (.iconst 0, 1) := dk_3 (dk_at dksX13_after_0 4 rfl rfl)
theorem dX13_after_5 : decode cX13_after 5 = .ok (.invokevirtual 35, 3) := dk_182 0 35 (dk_at dksX13_after_0 5 rfl rfl)
theorem dX13_after_8 : decode cX13_after 8 = .ok (.astore_n 2, 1) := dk_77 (dk_at dksX13_after_0 8 rfl rfl)
theorem dX13_after_9 : decode cX13_after 9 = .ok (.aload_n 0, 1) := dk_42 (dk_at dksX13_after_0 9 rfl rfl)
theorem dX13_after_10 : decode cX13_after 10 = .ok (.getfield 9, 3) := dk_180 0 9 (dk_at dksX13_after_0 10 rfl rfl)
theorem dX13_after_13 : decode cX13_after 13 = .ok (.iconst 1, 1) := dk_4 (dk_at dksX13_after_0 13 rfl rfl)
theorem dX13_after_14 : decode cX13_after 14 = .ok (.invokevirtual 35, 3) := dk_182 0 35 (dk_at dksX13_after_0 14 rfl rfl)
theorem dX13_after_17 : decode cX13_after 17 = .ok (.astore_n 3, 1) := dk_78 (dk_at dksX13_after_0 17 rfl rfl)
theorem dX13_after_18 : decode cX13_after 18 = .ok (.iconst 0, 1) := dk_3 (dk_at dksX13_after_0 18 rfl rfl)
theorem dX13_after_19 : decode cX13_after 19 = .ok (.istore 4, 2) := dk_54 4 (dk_at dksX13_after_0 19 rfl rfl)
theorem dX13_after_21 : decode cX13_after 21 = .ok (.iload 4, 2) := dk_21 4 (dk_at dksX13_after_0 21 rfl rfl)
theorem dX13_after_23 : decode cX13_after 23 = .ok (.iload_n 1, 1) := dk_27 (dk_at dksX13_after_0 23 rfl rfl)
theorem dX13_after_24 : decode cX13_after 24 = .ok (.if_icmp .ge 67, 3) := dk_162 0 67 (dk_at dksX13_after_1 0 rfl rfl)
theorem dX13_after_27 : decode cX13_after 27 = .ok (.iconst 0, 1) := dk_3 (dk_at dksX13_after_1 3 rfl rfl)
theorem dX13_after_28 : decode cX13_after 28 = .ok (.istore 5, 2) := dk_54 5 (dk_at dksX13_after_1 4 rfl rfl)
theorem dX13_after_30 : decode cX13_after 30 = .ok (.iload 5, 2) := dk_21 5 (dk_at dksX13_after_1 6 rfl rfl)
theorem dX13_after_32 : decode cX13_after 32 = .ok (.bipush 125, 2) := dk_16 125 (dk_at dksX13_after_1 8 rfl rfl)
theorem dX13_after_34 : decode cX13_after 34 = .ok (.if_icmp .ge 43, 3) := dk_162 0 43 (dk_at dksX13_after_1 10 rfl rfl)
theorem dX13_after_37 : decode cX13_after 37 = .ok (.aload_n 3, 1) := dk_45 (dk_at dksX13_after_1 13 rfl rfl)
theorem dX13_after_38 : decode cX13_after 38 = .ok (.iload 5, 2) := dk_21 5 (dk_at dksX13_after_1 14 rfl rfl)
theorem dX13_after_40 : decode cX13_after 40 = .ok (.aload_n 0, 1) := dk_42 (dk_at dksX13_after_1 16 rfl rfl)
theorem dX13_after_41 : decode cX13_after 41 = .ok (.getfield 9, 3) := dk_180 0 9 (dk_at dksX13_after_1 17 rfl rfl)
theorem dX13_after_44 : decode cX13_after 44 = .ok (.iload 5, 2) := dk_21 5 (dk_at dksX13_after_1 20 rfl rfl)
theorem dX13_after_46 : decode cX13_after 46 = .ok (.invokevirtual 39, 3) := dk_182 0 39 (dk_at dksX13_after_2 0 rfl rfl)
theorem dX13_after_49 : decode cX13_after 49 = .ok (.ifCond .eq 20, 3) := dk_153 0 20 (dk_at dksX13_after_2 3 rfl rfl)
theorem dX13_after_52 : decode cX13_after 52 = .ok (.aload_n 0, 1) := dk_42 (dk_at dksX13_after_2 6 rfl rfl)
theorem dX13_after_53 : decode cX13_after 53 = .ok (.iload 5, 2) := dk_21 5 (dk_at dksX13_after_2 7 rfl rfl)
theorem dX13_after_55 : decode cX13_after 55 = .ok (.aload_n 2, 1) := dk_44 (dk_at dksX13_after_2 9 rfl rfl)
theorem dX13_after_56 : decode cX13_after 56 = .ok (.aload_n 0, 1) := dk_42 (dk_at dksX13_after_2 10 rfl rfl)
theorem dX13_after_57 : decode cX13_after 57 = .ok (.getfield 9, 3) := dk_180 0 9 (dk_at dksX13_after_2 11 rfl rfl)
theorem dX13_after_60 : decode cX13_after 60 = .ok (.getfield 43, 3) := dk_180 0 43 (dk_at dksX13_after_2 14 rfl rfl)
theorem dX13_after_63 : decode cX13_after 63 = .ok (.invokevirtual 47, 3) := dk_182 0 47 (dk_at dksX13_after_2 17 rfl rfl)
theorem dX13_after_66 : decode cX13_after 66 = .ok (.goto 4, 3) := dk_167 0 4 (dk_at dksX13_after_2 20 rfl rfl)
theorem dX13_after_69 : decode cX13_after 69 = .ok (.lconst 0, 1) := dk_9 (dk_at dksX13_after_2 23 rfl rfl)
theorem dX13_after_70 : decode cX13_after 70 = .ok (.lastore, 1) := dk_80 (dk_at dksX13_after_3 0 rfl rfl)
theorem dX13_after_71 : decode cX13_after 71 = .ok (.iinc 5 1, 3) := dk_132 5 1 (dk_at dksX13_after_3 1 rfl rfl)
theorem dX13_after_74 : decode cX13_after 74 = .ok (.goto (-44), 3) := dk_167 255 212 (dk_at dksX13_after_3 4 rfl rfl)
theorem dX13_after_77 : decode cX13_after 77 = .ok (.aload_n 2, 1) := dk_44 (dk_at dksX13_after_3 7 rfl rfl)
theorem dX13_after_78 : decode cX13_after 78 = .ok (.astore 5, 2) := dk_58 5 (dk_at dksX13_after_3 8 rfl rfl)
theorem dX13_after_80 : decode cX13_after 80 = .ok (.aload_n 3, 1) := dk_45 (dk_at dksX13_after_3 10 rfl rfl)
theorem dX13_after_81 : decode cX13_after 81 = .ok (.astore_n 2, 1) := dk_77 (dk_at dksX13_after_3 11 rfl rfl)
theorem dX13_after_82 : decode cX13_after 82 = .ok (.aload 5, 2) := dk_25 5 (dk_at dksX13_after_3 12 rfl rfl)
theorem dX13_after_84 : decode cX13_after 84 = .ok (.astore_n 3, 1) := dk_78 (dk_at dksX13_after_3 14 rfl rfl)
theorem dX13_after_85 : decode cX13_after 85 = .ok (.iinc 4 1, 3) := dk_132 4 1 (dk_at dksX13_after_3 15 rfl rfl)
theorem dX13_after_88 : decode cX13_after 88 = .ok (.goto (-67), 3) := dk_167 255 189 (dk_at dksX13_after_3 18 rfl rfl)
theorem dX13_after_91 : decode cX13_after 91 = .ok (.aload_n 2, 1) := dk_44 (dk_at dksX13_after_3 21 rfl rfl)
theorem dX13_after_92 : decode cX13_after 92 = .ok (.areturn, 1) := dk_176 (dk_at dksX13_after_3 22 rfl rfl)
abbrev cX13_hour : ByteArray := prog_17_method_5_code
def yX13_hour : MethodName := ⟨RX13, "hour", "(I[J[I)J"⟩
def dkwX13_hour_4 : List UInt8 := [105, 97, 55, 4, 132, 6, 1, 167, 255, 163, 22, 4, 20, 0, 87, 109, 173]
abbrev dktX13_hour_4 : List UInt8 := dkwX13_hour_4 ++ []
def dkwX13_hour_3 : List UInt8 := [167, 255, 210, 22, 4, 21, 7, 154, 0, 7, 9, 167, 0, 14, 21, 7, 133, 42, 21, 8, 44, 182, 0, 84]
abbrev dktX13_hour_3 : List UInt8 := dkwX13_hour_3 ++ dktX13_hour_4
def dkwX13_hour_2 : List UInt8 := [182, 0, 76, 104, 54, 7, 21, 8, 21, 10, 21, 9, 184, 0, 80, 104, 96, 54, 8, 132, 9, 1]
abbrev dktX13_hour_2 : List UInt8 := dkwX13_hour_2 ++ dktX13_hour_3
def dkwX13_hour_1 : List UInt8 := [6, 162, 0, 46, 21, 6, 21, 9, 122, 4, 126, 54, 10, 21, 7, 42, 27, 21, 9, 21, 10, 45]
abbrev dktX13_hour_1 : List UInt8 := dkwX13_hour_1 ++ dktX13_hour_2
def dkwX13_hour_0 : List UInt8 := [9, 55, 4, 3, 54, 6, 21, 6, 16, 8, 162, 0, 92, 4, 54, 7, 27, 54, 8, 3, 54, 9, 21, 9]
abbrev dktX13_hour_0 : List UInt8 := dkwX13_hour_0 ++ dktX13_hour_1
theorem dksX13_hour_0 : cX13_hour.data.toList.drop 0 = dktX13_hour_0 := by decide +kernel
theorem dksX13_hour_1 : cX13_hour.data.toList.drop 24 = dktX13_hour_1 := dk_seg dksX13_hour_0 24 rfl rfl
theorem dksX13_hour_2 : cX13_hour.data.toList.drop 46 = dktX13_hour_2 := dk_seg dksX13_hour_1 22 rfl rfl
theorem dksX13_hour_3 : cX13_hour.data.toList.drop 68 = dktX13_hour_3 := dk_seg dksX13_hour_2 22 rfl rfl
theorem dksX13_hour_4 : cX13_hour.data.toList.drop 92 = dktX13_hour_4 := dk_seg dksX13_hour_3 24 rfl rfl
theorem dX13_hour_0 : decode cX13_hour 0 = .ok (.lconst 0, 1) := dk_9 (dk_at dksX13_hour_0 0 rfl rfl)
theorem dX13_hour_1 : decode cX13_hour 1 = .ok (.lstore 4, 2) := dk_55 4 (dk_at dksX13_hour_0 1 rfl rfl)
theorem dX13_hour_3 : decode cX13_hour 3 = .ok (.iconst 0, 1) := dk_3 (dk_at dksX13_hour_0 3 rfl rfl)
theorem dX13_hour_4 : decode cX13_hour 4 = .ok (.istore 6, 2) := dk_54 6 (dk_at dksX13_hour_0 4 rfl rfl)
theorem dX13_hour_6 : decode cX13_hour 6 = .ok (.iload 6, 2) := dk_21 6 (dk_at dksX13_hour_0 6 rfl rfl)
theorem dX13_hour_8 : decode cX13_hour 8 = .ok (.bipush 8, 2) := dk_16 8 (dk_at dksX13_hour_0 8 rfl rfl)
theorem dX13_hour_10 : decode cX13_hour 10 = .ok (.if_icmp .ge 92, 3) := dk_162 0 92 (dk_at dksX13_hour_0 10 rfl rfl)
theorem dX13_hour_13 : decode cX13_hour 13 = .ok (.iconst 1, 1) := dk_4 (dk_at dksX13_hour_0 13 rfl rfl)
theorem dX13_hour_14 : decode cX13_hour 14 = .ok (.istore 7, 2) := dk_54 7 (dk_at dksX13_hour_0 14 rfl rfl)
theorem dX13_hour_16 : decode cX13_hour 16 = .ok (.iload_n 1, 1) := dk_27 (dk_at dksX13_hour_0 16 rfl rfl)
theorem dX13_hour_17 : decode cX13_hour 17 = .ok (.istore 8, 2) := dk_54 8 (dk_at dksX13_hour_0 17 rfl rfl)
theorem dX13_hour_19 : decode cX13_hour 19 = .ok (.iconst 0, 1) := dk_3 (dk_at dksX13_hour_0 19 rfl rfl)
theorem dX13_hour_20 : decode cX13_hour 20 = .ok (.istore 9, 2) := dk_54 9 (dk_at dksX13_hour_0 20 rfl rfl)
theorem dX13_hour_22 : decode cX13_hour 22 = .ok (.iload 9, 2) := dk_21 9 (dk_at dksX13_hour_0 22 rfl rfl)
theorem dX13_hour_24 : decode cX13_hour 24 = .ok (.iconst 3, 1) := dk_6 (dk_at dksX13_hour_1 0 rfl rfl)
theorem dX13_hour_25 : decode cX13_hour 25 = .ok (.if_icmp .ge 46, 3) := dk_162 0 46 (dk_at dksX13_hour_1 1 rfl rfl)
theorem dX13_hour_28 : decode cX13_hour 28 = .ok (.iload 6, 2) := dk_21 6 (dk_at dksX13_hour_1 4 rfl rfl)
theorem dX13_hour_30 : decode cX13_hour 30 = .ok (.iload 9, 2) := dk_21 9 (dk_at dksX13_hour_1 6 rfl rfl)
theorem dX13_hour_32 : decode cX13_hour 32 = .ok (.ishr, 1) := dk_122 (dk_at dksX13_hour_1 8 rfl rfl)
theorem dX13_hour_33 : decode cX13_hour 33 = .ok (.iconst 1, 1) := dk_4 (dk_at dksX13_hour_1 9 rfl rfl)
theorem dX13_hour_34 : decode cX13_hour 34 = .ok (.iand, 1) := dk_126 (dk_at dksX13_hour_1 10 rfl rfl)
theorem dX13_hour_35 : decode cX13_hour 35 = .ok (.istore 10, 2) := dk_54 10 (dk_at dksX13_hour_1 11 rfl rfl)
theorem dX13_hour_37 : decode cX13_hour 37 = .ok (.iload 7, 2) := dk_21 7 (dk_at dksX13_hour_1 13 rfl rfl)
theorem dX13_hour_39 : decode cX13_hour 39 = .ok (.aload_n 0, 1) := dk_42 (dk_at dksX13_hour_1 15 rfl rfl)
theorem dX13_hour_40 : decode cX13_hour 40 = .ok (.iload_n 1, 1) := dk_27 (dk_at dksX13_hour_1 16 rfl rfl)
theorem dX13_hour_41 : decode cX13_hour 41 = .ok (.iload 9, 2) := dk_21 9 (dk_at dksX13_hour_1 17 rfl rfl)
theorem dX13_hour_43 : decode cX13_hour 43 = .ok (.iload 10, 2) := dk_21 10 (dk_at dksX13_hour_1 19 rfl rfl)
theorem dX13_hour_45 : decode cX13_hour 45 = .ok (.aload_n 3, 1) := dk_45 (dk_at dksX13_hour_1 21 rfl rfl)
theorem dX13_hour_46 : decode cX13_hour 46 = .ok (.invokevirtual 76, 3) := dk_182 0 76 (dk_at dksX13_hour_2 0 rfl rfl)
theorem dX13_hour_49 : decode cX13_hour 49 = .ok (.imul, 1) := dk_104 (dk_at dksX13_hour_2 3 rfl rfl)
theorem dX13_hour_50 : decode cX13_hour 50 = .ok (.istore 7, 2) := dk_54 7 (dk_at dksX13_hour_2 4 rfl rfl)
theorem dX13_hour_52 : decode cX13_hour 52 = .ok (.iload 8, 2) := dk_21 8 (dk_at dksX13_hour_2 6 rfl rfl)
theorem dX13_hour_54 : decode cX13_hour 54 = .ok (.iload 10, 2) := dk_21 10 (dk_at dksX13_hour_2 8 rfl rfl)
theorem dX13_hour_56 : decode cX13_hour 56 = .ok (.iload 9, 2) := dk_21 9 (dk_at dksX13_hour_2 10 rfl rfl)
theorem dX13_hour_58 : decode cX13_hour 58 = .ok (.invokestatic 80, 3) := dk_184 0 80 (dk_at dksX13_hour_2 12 rfl rfl)
theorem dX13_hour_61 : decode cX13_hour 61 = .ok (.imul, 1) := dk_104 (dk_at dksX13_hour_2 15 rfl rfl)
theorem dX13_hour_62 : decode cX13_hour 62 = .ok (.iadd, 1) := dk_96 (dk_at dksX13_hour_2 16 rfl rfl)
theorem dX13_hour_63 : decode cX13_hour 63 = .ok (.istore 8, 2) := dk_54 8 (dk_at dksX13_hour_2 17 rfl rfl)
theorem dX13_hour_65 : decode cX13_hour 65 = .ok (.iinc 9 1, 3) := dk_132 9 1 (dk_at dksX13_hour_2 19 rfl rfl)
theorem dX13_hour_68 : decode cX13_hour 68 = .ok (.goto (-46), 3) := dk_167 255 210 (dk_at dksX13_hour_3 0 rfl rfl)
theorem dX13_hour_71 : decode cX13_hour 71 = .ok (.lload 4, 2) := dk_22 4 (dk_at dksX13_hour_3 3 rfl rfl)
theorem dX13_hour_73 : decode cX13_hour 73 = .ok (.iload 7, 2) := dk_21 7 (dk_at dksX13_hour_3 5 rfl rfl)
theorem dX13_hour_75 : decode cX13_hour 75 = .ok (.ifCond .ne 7, 3) := dk_154 0 7 (dk_at dksX13_hour_3 7 rfl rfl)
theorem dX13_hour_78 : decode cX13_hour 78 = .ok (.lconst 0, 1) := dk_9 (dk_at dksX13_hour_3 10 rfl rfl)
theorem dX13_hour_79 : decode cX13_hour 79 = .ok (.goto 14, 3) := dk_167 0 14 (dk_at dksX13_hour_3 11 rfl rfl)
theorem dX13_hour_82 : decode cX13_hour 82 = .ok (.iload 7, 2) := dk_21 7 (dk_at dksX13_hour_3 14 rfl rfl)
theorem dX13_hour_84 : decode cX13_hour 84 = .ok (.i2l, 1) := dk_133 (dk_at dksX13_hour_3 16 rfl rfl)
theorem dX13_hour_85 : decode cX13_hour 85 = .ok (.aload_n 0, 1) := dk_42 (dk_at dksX13_hour_3 17 rfl rfl)
theorem dX13_hour_86 : decode cX13_hour 86 = .ok (.iload 8, 2) := dk_21 8 (dk_at dksX13_hour_3 18 rfl rfl)
theorem dX13_hour_88 : decode cX13_hour 88 = .ok (.aload_n 2, 1) := dk_44 (dk_at dksX13_hour_3 20 rfl rfl)
theorem dX13_hour_89 : decode cX13_hour 89 = .ok (.invokevirtual 84, 3) := dk_182 0 84 (dk_at dksX13_hour_3 21 rfl rfl)
theorem dX13_hour_92 : decode cX13_hour 92 = .ok (.lmul, 1) := dk_105 (dk_at dksX13_hour_4 0 rfl rfl)
theorem dX13_hour_93 : decode cX13_hour 93 = .ok (.ladd, 1) := dk_97 (dk_at dksX13_hour_4 1 rfl rfl)
theorem dX13_hour_94 : decode cX13_hour 94 = .ok (.lstore 4, 2) := dk_55 4 (dk_at dksX13_hour_4 2 rfl rfl)
theorem dX13_hour_96 : decode cX13_hour 96 = .ok (.iinc 6 1, 3) := dk_132 6 1 (dk_at dksX13_hour_4 4 rfl rfl)
theorem dX13_hour_99 : decode cX13_hour 99 = .ok (.goto (-93), 3) := dk_167 255 163 (dk_at dksX13_hour_4 7 rfl rfl)
theorem dX13_hour_102 : decode cX13_hour 102 = .ok (.lload 4, 2) := dk_22 4 (dk_at dksX13_hour_4 10 rfl rfl)
theorem dX13_hour_104 : decode cX13_hour 104 = .ok (.ldc2_w 87, 3) := dk_20 0 87 (dk_at dksX13_hour_4 12 rfl rfl)
theorem dX13_hour_107 : decode cX13_hour 107 = .ok (.ldiv, 1) := dk_109 (dk_at dksX13_hour_4 15 rfl rfl)
theorem dX13_hour_108 : decode cX13_hour 108 = .ok (.lreturn, 1) := dk_173 (dk_at dksX13_hour_4 16 rfl rfl)
abbrev cX13_odds : ByteArray := prog_17_method_3_code
def yX13_odds : MethodName := ⟨RX13, "odds", "(III[I)I"⟩
def dkwX13_odds_1 : List UInt8 := [3, 54, 5, 29, 4, 160, 0, 8, 21, 5, 167, 0, 8, 16, 10, 21, 5, 100, 172]
abbrev dktX13_odds_1 : List UInt8 := dkwX13_odds_1 ++ []
def dkwX13_odds_0 : List UInt8 := [27, 28, 184, 0, 51, 42, 180, 0, 9, 180, 0, 55, 28, 46, 162, 0, 10, 25, 4, 28, 46, 167, 0, 4]
abbrev dktX13_odds_0 : List UInt8 := dkwX13_odds_0 ++ dktX13_odds_1
theorem dksX13_odds_0 : cX13_odds.data.toList.drop 0 = dktX13_odds_0 := by decide +kernel
theorem dksX13_odds_1 : cX13_odds.data.toList.drop 24 = dktX13_odds_1 := dk_seg dksX13_odds_0 24 rfl rfl
theorem dX13_odds_0 : decode cX13_odds 0 = .ok (.iload_n 1, 1) := dk_27 (dk_at dksX13_odds_0 0 rfl rfl)
theorem dX13_odds_1 : decode cX13_odds 1 = .ok (.iload_n 2, 1) := dk_28 (dk_at dksX13_odds_0 1 rfl rfl)
theorem dX13_odds_2 : decode cX13_odds 2 = .ok (.invokestatic 51, 3) := dk_184 0 51 (dk_at dksX13_odds_0 2 rfl rfl)
theorem dX13_odds_5 : decode cX13_odds 5 = .ok (.aload_n 0, 1) := dk_42 (dk_at dksX13_odds_0 5 rfl rfl)
theorem dX13_odds_6 : decode cX13_odds 6 = .ok (.getfield 9, 3) := dk_180 0 9 (dk_at dksX13_odds_0 6 rfl rfl)
theorem dX13_odds_9 : decode cX13_odds 9 = .ok (.getfield 55, 3) := dk_180 0 55 (dk_at dksX13_odds_0 9 rfl rfl)
theorem dX13_odds_12 : decode cX13_odds 12 = .ok (.iload_n 2, 1) := dk_28 (dk_at dksX13_odds_0 12 rfl rfl)
theorem dX13_odds_13 : decode cX13_odds 13 = .ok (.iaload, 1) := dk_46 (dk_at dksX13_odds_0 13 rfl rfl)
theorem dX13_odds_14 : decode cX13_odds 14 = .ok (.if_icmp .ge 10, 3) := dk_162 0 10 (dk_at dksX13_odds_0 14 rfl rfl)
theorem dX13_odds_17 : decode cX13_odds 17 = .ok (.aload 4, 2) := dk_25 4 (dk_at dksX13_odds_0 17 rfl rfl)
theorem dX13_odds_19 : decode cX13_odds 19 = .ok (.iload_n 2, 1) := dk_28 (dk_at dksX13_odds_0 19 rfl rfl)
theorem dX13_odds_20 : decode cX13_odds 20 = .ok (.iaload, 1) := dk_46 (dk_at dksX13_odds_0 20 rfl rfl)
theorem dX13_odds_21 : decode cX13_odds 21 = .ok (.goto 4, 3) := dk_167 0 4 (dk_at dksX13_odds_0 21 rfl rfl)
theorem dX13_odds_24 : decode cX13_odds 24 = .ok (.iconst 0, 1) := dk_3 (dk_at dksX13_odds_1 0 rfl rfl)
theorem dX13_odds_25 : decode cX13_odds 25 = .ok (.istore 5, 2) := dk_54 5 (dk_at dksX13_odds_1 1 rfl rfl)
theorem dX13_odds_27 : decode cX13_odds 27 = .ok (.iload_n 3, 1) := dk_29 (dk_at dksX13_odds_1 3 rfl rfl)
theorem dX13_odds_28 : decode cX13_odds 28 = .ok (.iconst 1, 1) := dk_4 (dk_at dksX13_odds_1 4 rfl rfl)
theorem dX13_odds_29 : decode cX13_odds 29 = .ok (.if_icmp .ne 8, 3) := dk_160 0 8 (dk_at dksX13_odds_1 5 rfl rfl)
theorem dX13_odds_32 : decode cX13_odds 32 = .ok (.iload 5, 2) := dk_21 5 (dk_at dksX13_odds_1 8 rfl rfl)
theorem dX13_odds_34 : decode cX13_odds 34 = .ok (.goto 8, 3) := dk_167 0 8 (dk_at dksX13_odds_1 10 rfl rfl)
theorem dX13_odds_37 : decode cX13_odds 37 = .ok (.bipush 10, 2) := dk_16 10 (dk_at dksX13_odds_1 13 rfl rfl)
theorem dX13_odds_39 : decode cX13_odds 39 = .ok (.iload 5, 2) := dk_21 5 (dk_at dksX13_odds_1 15 rfl rfl)
theorem dX13_odds_41 : decode cX13_odds 41 = .ok (.isub, 1) := dk_100 (dk_at dksX13_odds_1 17 rfl rfl)
theorem dX13_odds_42 : decode cX13_odds 42 = .ok (.ireturn, 1) := dk_172 (dk_at dksX13_odds_1 18 rfl rfl)
abbrev cX13_comes : ByteArray := prog_17_method_4_code
def yX13_comes : MethodName := ⟨RX13, "comes", "(I[J)J"⟩
def dkwX13_comes_4 : List UInt8 := [167, 255, 176, 33, 173]
abbrev dktX13_comes_4 : List UInt8 := dkwX13_comes_4 ++ []
def dkwX13_comes_3 : List UInt8 := [21, 5, 46, 133, 42, 180, 0, 9, 21, 5, 21, 6, 27, 44, 182, 0, 72, 105, 97, 66, 132, 5, 1]
abbrev dktX13_comes_3 : List UInt8 := dkwX13_comes_3 ++ dktX13_comes_4
def dkwX13_comes_2 : List UInt8 := [42, 180, 0, 15, 42, 180, 0, 9, 21, 5, 27, 182, 0, 65, 54, 6, 33, 42, 180, 0, 9, 180, 0, 69]
abbrev dktX13_comes_2 : List UInt8 := dkwX13_comes_2 ++ dktX13_comes_3
def dkwX13_comes_1 : List UInt8 := [162, 0, 74, 42, 180, 0, 15, 199, 0, 17, 42, 180, 0, 9, 21, 5, 27, 44, 184, 0, 61, 167, 0, 17]
abbrev dktX13_comes_1 : List UInt8 := dkwX13_comes_1 ++ dktX13_comes_2
def dkwX13_comes_0 : List UInt8 := [42, 180, 0, 25, 133, 44, 27, 47, 105, 66, 3, 54, 5, 21, 5, 42, 180, 0, 9, 180, 0, 58]
abbrev dktX13_comes_0 : List UInt8 := dkwX13_comes_0 ++ dktX13_comes_1
theorem dksX13_comes_0 : cX13_comes.data.toList.drop 0 = dktX13_comes_0 := by decide +kernel
theorem dksX13_comes_1 : cX13_comes.data.toList.drop 22 = dktX13_comes_1 := dk_seg dksX13_comes_0 22 rfl rfl
theorem dksX13_comes_2 : cX13_comes.data.toList.drop 46 = dktX13_comes_2 := dk_seg dksX13_comes_1 24 rfl rfl
theorem dksX13_comes_3 : cX13_comes.data.toList.drop 70 = dktX13_comes_3 := dk_seg dksX13_comes_2 24 rfl rfl
theorem dksX13_comes_4 : cX13_comes.data.toList.drop 93 = dktX13_comes_4 := dk_seg dksX13_comes_3 23 rfl rfl
theorem dX13_comes_0 : decode cX13_comes 0 = .ok (.aload_n 0, 1) := dk_42 (dk_at dksX13_comes_0 0 rfl rfl)
theorem dX13_comes_1 : decode cX13_comes 1 = .ok (.getfield 25, 3) := dk_180 0 25 (dk_at dksX13_comes_0 1 rfl rfl)
theorem dX13_comes_4 : decode cX13_comes 4 = .ok (.i2l, 1) := dk_133 (dk_at dksX13_comes_0 4 rfl rfl)
theorem dX13_comes_5 : decode cX13_comes 5 = .ok (.aload_n 2, 1) := dk_44 (dk_at dksX13_comes_0 5 rfl rfl)
theorem dX13_comes_6 : decode cX13_comes 6 = .ok (.iload_n 1, 1) := dk_27 (dk_at dksX13_comes_0 6 rfl rfl)
theorem dX13_comes_7 : decode cX13_comes 7 = .ok (.laload, 1) := dk_47 (dk_at dksX13_comes_0 7 rfl rfl)
theorem dX13_comes_8 : decode cX13_comes 8 = .ok (.lmul, 1) := dk_105 (dk_at dksX13_comes_0 8 rfl rfl)
theorem dX13_comes_9 : decode cX13_comes 9 = .ok (.lstore_n 3, 1) := dk_66 (dk_at dksX13_comes_0 9 rfl rfl)
theorem dX13_comes_10 : decode cX13_comes 10 = .ok (.iconst 0, 1) := dk_3 (dk_at dksX13_comes_0 10 rfl rfl)
theorem dX13_comes_11 : decode cX13_comes 11 = .ok (.istore 5, 2) := dk_54 5 (dk_at dksX13_comes_0 11 rfl rfl)
theorem dX13_comes_13 : decode cX13_comes 13 = .ok (.iload 5, 2) := dk_21 5 (dk_at dksX13_comes_0 13 rfl rfl)
theorem dX13_comes_15 : decode cX13_comes 15 = .ok (.aload_n 0, 1) := dk_42 (dk_at dksX13_comes_0 15 rfl rfl)
theorem dX13_comes_16 : decode cX13_comes 16 = .ok (.getfield 9, 3) := dk_180 0 9 (dk_at dksX13_comes_0 16 rfl rfl)
theorem dX13_comes_19 : decode cX13_comes 19 = .ok (.getfield 58, 3) := dk_180 0 58 (dk_at dksX13_comes_0 19 rfl rfl)
theorem dX13_comes_22 : decode cX13_comes 22 = .ok (.if_icmp .ge 74, 3) := dk_162 0 74 (dk_at dksX13_comes_1 0 rfl rfl)
theorem dX13_comes_25 : decode cX13_comes 25 = .ok (.aload_n 0, 1) := dk_42 (dk_at dksX13_comes_1 3 rfl rfl)
theorem dX13_comes_26 : decode cX13_comes 26 = .ok (.getfield 15, 3) := dk_180 0 15 (dk_at dksX13_comes_1 4 rfl rfl)
theorem dX13_comes_29 : decode cX13_comes 29 = .ok (.ifnonnull 17, 3) := dk_199 0 17 (dk_at dksX13_comes_1 7 rfl rfl)
theorem dX13_comes_32 : decode cX13_comes 32 = .ok (.aload_n 0, 1) := dk_42 (dk_at dksX13_comes_1 10 rfl rfl)
theorem dX13_comes_33 : decode cX13_comes 33 = .ok (.getfield 9, 3) := dk_180 0 9 (dk_at dksX13_comes_1 11 rfl rfl)
theorem dX13_comes_36 : decode cX13_comes 36 = .ok (.iload 5, 2) := dk_21 5 (dk_at dksX13_comes_1 14 rfl rfl)
theorem dX13_comes_38 : decode cX13_comes 38 = .ok (.iload_n 1, 1) := dk_27 (dk_at dksX13_comes_1 16 rfl rfl)
theorem dX13_comes_39 : decode cX13_comes 39 = .ok (.aload_n 2, 1) := dk_44 (dk_at dksX13_comes_1 17 rfl rfl)
theorem dX13_comes_40 : decode cX13_comes 40 = .ok (.invokestatic 61, 3) := dk_184 0 61 (dk_at dksX13_comes_1 18 rfl rfl)
theorem dX13_comes_43 : decode cX13_comes 43 = .ok (.goto 17, 3) := dk_167 0 17 (dk_at dksX13_comes_1 21 rfl rfl)
theorem dX13_comes_46 : decode cX13_comes 46 = .ok (.aload_n 0, 1) := dk_42 (dk_at dksX13_comes_2 0 rfl rfl)
theorem dX13_comes_47 : decode cX13_comes 47 = .ok (.getfield 15, 3) := dk_180 0 15 (dk_at dksX13_comes_2 1 rfl rfl)
theorem dX13_comes_50 : decode cX13_comes 50 = .ok (.aload_n 0, 1) := dk_42 (dk_at dksX13_comes_2 4 rfl rfl)
theorem dX13_comes_51 : decode cX13_comes 51 = .ok (.getfield 9, 3) := dk_180 0 9 (dk_at dksX13_comes_2 5 rfl rfl)
theorem dX13_comes_54 : decode cX13_comes 54 = .ok (.iload 5, 2) := dk_21 5 (dk_at dksX13_comes_2 8 rfl rfl)
theorem dX13_comes_56 : decode cX13_comes 56 = .ok (.iload_n 1, 1) := dk_27 (dk_at dksX13_comes_2 10 rfl rfl)
theorem dX13_comes_57 : decode cX13_comes 57 = .ok (.invokevirtual 65, 3) := dk_182 0 65 (dk_at dksX13_comes_2 11 rfl rfl)
theorem dX13_comes_60 : decode cX13_comes 60 = .ok (.istore 6, 2) := dk_54 6 (dk_at dksX13_comes_2 14 rfl rfl)
theorem dX13_comes_62 : decode cX13_comes 62 = .ok (.lload_n 3, 1) := dk_33 (dk_at dksX13_comes_2 16 rfl rfl)
theorem dX13_comes_63 : decode cX13_comes 63 = .ok (.aload_n 0, 1) := dk_42 (dk_at dksX13_comes_2 17 rfl rfl)
theorem dX13_comes_64 : decode cX13_comes 64 = .ok (.getfield 9, 3) := dk_180 0 9 (dk_at dksX13_comes_2 18 rfl rfl)
theorem dX13_comes_67 : decode cX13_comes 67 = .ok (.getfield 69, 3) := dk_180 0 69 (dk_at dksX13_comes_2 21 rfl rfl)
theorem dX13_comes_70 : decode cX13_comes 70 = .ok (.iload 5, 2) := dk_21 5 (dk_at dksX13_comes_3 0 rfl rfl)
theorem dX13_comes_72 : decode cX13_comes 72 = .ok (.iaload, 1) := dk_46 (dk_at dksX13_comes_3 2 rfl rfl)
theorem dX13_comes_73 : decode cX13_comes 73 = .ok (.i2l, 1) := dk_133 (dk_at dksX13_comes_3 3 rfl rfl)
theorem dX13_comes_74 : decode cX13_comes 74 = .ok (.aload_n 0, 1) := dk_42 (dk_at dksX13_comes_3 4 rfl rfl)
theorem dX13_comes_75 : decode cX13_comes 75 = .ok (.getfield 9, 3) := dk_180 0 9 (dk_at dksX13_comes_3 5 rfl rfl)
theorem dX13_comes_78 : decode cX13_comes 78 = .ok (.iload 5, 2) := dk_21 5 (dk_at dksX13_comes_3 8 rfl rfl)
theorem dX13_comes_80 : decode cX13_comes 80 = .ok (.iload 6, 2) := dk_21 6 (dk_at dksX13_comes_3 10 rfl rfl)
theorem dX13_comes_82 : decode cX13_comes 82 = .ok (.iload_n 1, 1) := dk_27 (dk_at dksX13_comes_3 12 rfl rfl)
theorem dX13_comes_83 : decode cX13_comes 83 = .ok (.aload_n 2, 1) := dk_44 (dk_at dksX13_comes_3 13 rfl rfl)
theorem dX13_comes_84 : decode cX13_comes 84 = .ok (.invokevirtual 72, 3) := dk_182 0 72 (dk_at dksX13_comes_3 14 rfl rfl)
theorem dX13_comes_87 : decode cX13_comes 87 = .ok (.lmul, 1) := dk_105 (dk_at dksX13_comes_3 17 rfl rfl)
theorem dX13_comes_88 : decode cX13_comes 88 = .ok (.ladd, 1) := dk_97 (dk_at dksX13_comes_3 18 rfl rfl)
theorem dX13_comes_89 : decode cX13_comes 89 = .ok (.lstore_n 3, 1) := dk_66 (dk_at dksX13_comes_3 19 rfl rfl)
theorem dX13_comes_90 : decode cX13_comes 90 = .ok (.iinc 5 1, 3) := dk_132 5 1 (dk_at dksX13_comes_3 20 rfl rfl)
theorem dX13_comes_93 : decode cX13_comes 93 = .ok (.goto (-80), 3) := dk_167 255 176 (dk_at dksX13_comes_4 0 rfl rfl)
theorem dX13_comes_96 : decode cX13_comes 96 = .ok (.lload_n 3, 1) := dk_33 (dk_at dksX13_comes_4 3 rfl rfl)
theorem dX13_comes_97 : decode cX13_comes 97 = .ok (.lreturn, 1) := dk_173 (dk_at dksX13_comes_4 4 rfl rfl)
theorem q90 : (Jvm.Cond.initialized "ThreeSizes$Worths") ∈ lw_all := lw_g (lw_at lw_m1 25 rfl) rfl
theorem q123 : (Jvm.Cond.fieldLink "ThreeSizes$Worths" (55 : Nat) "ThreeSizes$Wall" "boxes" "[I") ∈ lw_all := lw_g (lw_at lw_m1 58 rfl) rfl
theorem q131 : (Jvm.Cond.fieldLink "ThreeSizes$Worths" (43 : Nat) "ThreeSizes$Wall" "goes" "[I") ∈ lw_all := lw_g (lw_at lw_m1 66 rfl) rfl
theorem q140 : (Jvm.Cond.fieldLink "ThreeSizes$Worths" (69 : Nat) "ThreeSizes$Wall" "comes" "[I") ∈ lw_all := lw_g (lw_at lw_m1 75 rfl) rfl
theorem q154 : (Jvm.Cond.fieldLink "ThreeSizes$Worths" (58 : Nat) "ThreeSizes$Wall" "sorts" "I") ∈ lw_all := lw_g (lw_at lw_m1 89 rfl) rfl
theorem q615 : (Jvm.Cond.instantiable "ThreeSizes$Worths" (3 : Nat)) ∈ lw_all := lw_g (lw_at lw_m3 70 rfl) rfl
theorem q617 : (Jvm.Cond.instanceMethod ({ cls := "ThreeSizes$Worths", name := "<init>", desc := "(LThreeSizes$Wall;LThreeSizes$Rule;)V" } : Jvm.MethodName)) ∈ lw_all := lw_g (lw_at lw_m3 72 rfl) rfl
theorem q618 : (Jvm.Cond.code ({ cls := "ThreeSizes$Worths", name := "<init>", desc := "(LThreeSizes$Wall;LThreeSizes$Rule;)V" } : Jvm.MethodName) prog_17_method_1_code (3 : Nat) (Option.none : Option Jvm.ClassFile.FieldType)) ∈ lw_all := lw_g (lw_at lw_m3 73 rfl) rfl
theorem q619 : (Jvm.Cond.methodLink "ThreeSizes$Worths" (3 : Nat) ({ cls := "java/lang/Object", name := "<init>", desc := "()V" } : Jvm.MethodName)) ∈ lw_all := lw_g (lw_at lw_m3 74 rfl) rfl
theorem q620 : (Jvm.Cond.methodLink "ThreeSizes$Worths" (19 : Nat) ({ cls := "ThreeSizes$Wall", name := "all", desc := "()I" } : Jvm.MethodName)) ∈ lw_all := lw_g (lw_at lw_m3 75 rfl) rfl
theorem q624 : (Jvm.Cond.methodLink "ThreeSizes$Worths" (29 : Nat) ({ cls := "ThreeSizes$Rule", name := "learns", desc := "(LThreeSizes$Wall;)V" } : Jvm.MethodName)) ∈ lw_all := lw_g (lw_at lw_m3 79 rfl) rfl
theorem q625 : (Jvm.Cond.fieldLink "ThreeSizes$Worths" (9 : Nat) "ThreeSizes$Worths" "wall" "LThreeSizes$Wall;") ∈ lw_all := lw_g (lw_at lw_m3 80 rfl) rfl
theorem q626 : (Jvm.Cond.fieldLink "ThreeSizes$Worths" (15 : Nat) "ThreeSizes$Worths" "rule" "LThreeSizes$Rule;") ∈ lw_all := lw_g (lw_at lw_m3 81 rfl) rfl
theorem q627 : (Jvm.Cond.fieldLink "ThreeSizes$Worths" (25 : Nat) "ThreeSizes$Worths" "none" "I") ∈ lw_all := lw_g (lw_at lw_m3 82 rfl) rfl
theorem q628 : (Jvm.Cond.laysFinal "ThreeSizes$Worths" "ThreeSizes$Worths" "wall" "LThreeSizes$Wall;") ∈ lw_all := lw_g (lw_at lw_m3 83 rfl) rfl
theorem q629 : (Jvm.Cond.soleField "ThreeSizes$Worths" "wall") ∈ lw_all := lw_g (lw_at lw_m3 84 rfl) rfl
theorem q630 : (Jvm.Cond.laysFinal "ThreeSizes$Worths" "ThreeSizes$Worths" "rule" "LThreeSizes$Rule;") ∈ lw_all := lw_g (lw_at lw_m3 85 rfl) rfl
theorem q631 : (Jvm.Cond.soleField "ThreeSizes$Worths" "rule") ∈ lw_all := lw_g (lw_at lw_m3 86 rfl) rfl
theorem q632 : (Jvm.Cond.laysFinal "ThreeSizes$Worths" "ThreeSizes$Worths" "none" "I") ∈ lw_all := lw_g (lw_at lw_m3 87 rfl) rfl
theorem q633 : (Jvm.Cond.soleField "ThreeSizes$Worths" "none") ∈ lw_all := lw_g (lw_at lw_m3 88 rfl) rfl
theorem q634 : (Jvm.Cond.superclass "ThreeSizes$Worths" "java/lang/Object") ∈ lw_all := lw_g (lw_at lw_m3 89 rfl) rfl
theorem q643 : (Jvm.Cond.instanceMethod ({ cls := "ThreeSizes$Worths", name := "after", desc := "(I)[J" } : Jvm.MethodName)) ∈ lw_all := lw_g (lw_at lw_m3 98 rfl) rfl
theorem q644 : (Jvm.Cond.selects "ThreeSizes$Worths" ({ cls := "ThreeSizes$Worths", name := "after", desc := "(I)[J" } : Jvm.MethodName) ({ cls := "ThreeSizes$Worths", name := "after", desc := "(I)[J" } : Jvm.MethodName)) ∈ lw_all := lw_g (lw_at lw_m3 99 rfl) rfl
theorem q645 : (Jvm.Cond.code ({ cls := "ThreeSizes$Worths", name := "after", desc := "(I)[J" } : Jvm.MethodName) prog_17_method_2_code (6 : Nat) (Option.some (Jvm.ClassFile.FieldType.array Jvm.ClassFile.FieldType.long))) ∈ lw_all := lw_g (lw_at lw_m3 100 rfl) rfl
theorem q646 : (Jvm.Cond.methodLink "ThreeSizes$Worths" (35 : Nat) ({ cls := "ThreeSizes$Wall", name := "row", desc := "(I)[J" } : Jvm.MethodName)) ∈ lw_all := lw_g (lw_at lw_m3 101 rfl) rfl
theorem q655 : (Jvm.Cond.methodLink "ThreeSizes$Worths" (39 : Nat) ({ cls := "ThreeSizes$Wall", name := "isState", desc := "(I)Z" } : Jvm.MethodName)) ∈ lw_all := lw_g (lw_at lw_m3 110 rfl) rfl
theorem q666 : (Jvm.Cond.methodLink "ThreeSizes$Worths" (47 : Nat) ({ cls := "ThreeSizes$Worths", name := "hour", desc := "(I[J[I)J" } : Jvm.MethodName)) ∈ lw_all := lw_g (lw_at lw_m3 121 rfl) rfl
theorem q667 : (Jvm.Cond.instanceMethod ({ cls := "ThreeSizes$Worths", name := "hour", desc := "(I[J[I)J" } : Jvm.MethodName)) ∈ lw_all := lw_g (lw_at lw_m3 122 rfl) rfl
theorem q668 : (Jvm.Cond.selects "ThreeSizes$Worths" ({ cls := "ThreeSizes$Worths", name := "hour", desc := "(I[J[I)J" } : Jvm.MethodName) ({ cls := "ThreeSizes$Worths", name := "hour", desc := "(I[J[I)J" } : Jvm.MethodName)) ∈ lw_all := lw_g (lw_at lw_m3 123 rfl) rfl
theorem q669 : (Jvm.Cond.code ({ cls := "ThreeSizes$Worths", name := "hour", desc := "(I[J[I)J" } : Jvm.MethodName) prog_17_method_5_code (11 : Nat) (Option.some Jvm.ClassFile.FieldType.long)) ∈ lw_all := lw_g (lw_at lw_m3 124 rfl) rfl
theorem q670 : (Jvm.Cond.methodLink "ThreeSizes$Worths" (76 : Nat) ({ cls := "ThreeSizes$Worths", name := "odds", desc := "(III[I)I" } : Jvm.MethodName)) ∈ lw_all := lw_g (lw_at lw_m3 125 rfl) rfl
theorem q671 : (Jvm.Cond.privateMethod ({ cls := "ThreeSizes$Worths", name := "odds", desc := "(III[I)I" } : Jvm.MethodName)) ∈ lw_tbl := lw_at lw_m3 126 rfl
theorem q672 : (Jvm.Cond.instanceMethod ({ cls := "ThreeSizes$Worths", name := "odds", desc := "(III[I)I" } : Jvm.MethodName)) ∈ lw_all := lw_g (lw_at lw_m3 127 rfl) rfl
theorem q673 : (Jvm.Cond.code ({ cls := "ThreeSizes$Worths", name := "odds", desc := "(III[I)I" } : Jvm.MethodName) prog_17_method_3_code (6 : Nat) (Option.some Jvm.ClassFile.FieldType.int)) ∈ lw_all := lw_g (lw_at lw_m3 128 rfl) rfl
theorem q674 : (Jvm.Cond.methodLinkNest "ThreeSizes$Worths" (51 : Nat) ({ cls := "ThreeSizes", name := "freeOf", desc := "(II)I" } : Jvm.MethodName) "ThreeSizes") ∈ lw_tbl := lw_at lw_m3 129 rfl
theorem q675 : (Jvm.Cond.methodLinkNest "ThreeSizes$Worths" (80 : Nat) ({ cls := "ThreeSizes", name := "step", desc := "(I)I" } : Jvm.MethodName) "ThreeSizes") ∈ lw_tbl := lw_at lw_m3 130 rfl
theorem q676 : (Jvm.Cond.methodLink "ThreeSizes$Worths" (84 : Nat) ({ cls := "ThreeSizes$Worths", name := "comes", desc := "(I[J)J" } : Jvm.MethodName)) ∈ lw_all := lw_g (lw_at lw_m3 131 rfl) rfl
theorem q677 : (Jvm.Cond.privateMethod ({ cls := "ThreeSizes$Worths", name := "comes", desc := "(I[J)J" } : Jvm.MethodName)) ∈ lw_tbl := lw_at lw_m3 132 rfl
theorem q678 : (Jvm.Cond.instanceMethod ({ cls := "ThreeSizes$Worths", name := "comes", desc := "(I[J)J" } : Jvm.MethodName)) ∈ lw_all := lw_g (lw_at lw_m3 133 rfl) rfl
theorem q679 : (Jvm.Cond.code ({ cls := "ThreeSizes$Worths", name := "comes", desc := "(I[J)J" } : Jvm.MethodName) prog_17_method_4_code (7 : Nat) (Option.some Jvm.ClassFile.FieldType.long)) ∈ lw_all := lw_g (lw_at lw_m3 134 rfl) rfl
theorem q680 : (Jvm.Cond.methodLinkNest "ThreeSizes$Worths" (61 : Nat) ({ cls := "ThreeSizes", name := "bestOf", desc := "(LThreeSizes$Wall;II[J)I" } : Jvm.MethodName) "ThreeSizes") ∈ lw_tbl := lw_at lw_m3 135 rfl
theorem q738 : (Jvm.Cond.methodLink "ThreeSizes$Worths" (72 : Nat) ({ cls := "ThreeSizes$Wall", name := "brings", desc := "(III[J)J" } : Jvm.MethodName)) ∈ lw_all := lw_g (lw_at lw_m3 193 rfl) rfl
theorem q739 : (Jvm.Cond.constantLong "ThreeSizes$Worths" (87 : Nat) (100000 : Int64)) ∈ lw_all := lw_g (lw_at lw_m3 194 rfl) rfl
theorem in_X13 : ∀ w ∈ wsX130, w ∈ lw_all := lw_in wsX130 [628, 630, 632] (by decide +kernel) (by decide +kernel)
/-! ThreeSizes$Reader -/
set_option maxRecDepth 100000
def RX14 : String := "ThreeSizes$Reader"
def TX14 : u_T := fun k => match k with
  | 0 => ("ThreeSizes$Reader", "tape", "[I", true)
  | 1 => ("ThreeSizes$Reader", "size", "I", true)
  | 2 => ("ThreeSizes$Reader", "wall", "LThreeSizes$Wall;", true)
  | 3 => ("ThreeSizes$Reader", "at", "I", false)
  | 4 => ("ThreeSizes$Reader", "from", "I", false)
  | 5 => ("ThreeSizes$Reader", "word", "Ljava/lang/String;", false)
  | _ => ("ThreeSizes$Reader", "number", "I", false)
def tyX14 : Nat → FieldType := fun k => match k with
  | 0 => .array .int
  | 1 => .int
  | 2 => .object "ThreeSizes$Wall"
  | 3 => .int
  | 4 => .int
  | 5 => .object "java/lang/String"
  | _ => .int
abbrev wsX140 : List Cond := u_ws RX14 TX14 7
theorem nmX14 : ∀ a, a < 7 → ∀ b, b < 7 → a ≠ b → (TX14 a).2.1 ≠ (TX14 b).2.1 := by decide +kernel
theorem tyX14_ok : ∀ k, k < 7 → parseFieldDescriptor (TX14 k).2.2.1 = some (tyX14 k) := by decide +kernel
abbrev cX14_init : ByteArray := prog_9_method_1_code
def yX14_init : MethodName := ⟨RX14, "<init>", "([IILThreeSizes$Wall;)V"⟩
def dkwX14_init_0 : List UInt8 := [42, 183, 0, 3, 42, 43, 181, 0, 9, 42, 28, 181, 0, 15, 42, 45, 181, 0, 19, 177]
abbrev dktX14_init_0 : List UInt8 := dkwX14_init_0 ++ []
theorem dksX14_init_0 : cX14_init.data.toList.drop 0 = dktX14_init_0 := by decide +kernel
theorem dX14_init_0 : decode cX14_init 0 = .ok (.aload_n 0, 1) := dk_42 (dk_at dksX14_init_0 0 rfl rfl)
theorem dX14_init_1 : decode cX14_init 1 = .ok (.invokespecial 3, 3) := dk_183 0 3 (dk_at dksX14_init_0 1 rfl rfl)
theorem dX14_init_4 : decode cX14_init 4 = .ok (.aload_n 0, 1) := dk_42 (dk_at dksX14_init_0 4 rfl rfl)
theorem dX14_init_5 : decode cX14_init 5 = .ok (.aload_n 1, 1) := dk_43 (dk_at dksX14_init_0 5 rfl rfl)
theorem dX14_init_6 : decode cX14_init 6 = .ok (.putfield 9, 3) := dk_181 0 9 (dk_at dksX14_init_0 6 rfl rfl)
theorem dX14_init_9 : decode cX14_init 9 = .ok (.aload_n 0, 1) := dk_42 (dk_at dksX14_init_0 9 rfl rfl)
theorem dX14_init_10 : decode cX14_init 10 = .ok (.iload_n 2, 1) := dk_28 (dk_at dksX14_init_0 10 rfl rfl)
theorem dX14_init_11 : decode cX14_init 11 = .ok (.putfield 15, 3) := dk_181 0 15 (dk_at dksX14_init_0 11 rfl rfl)
theorem dX14_init_14 : decode cX14_init 14 = .ok (.aload_n 0, 1) := dk_42 (dk_at dksX14_init_0 14 rfl rfl)
theorem dX14_init_15 : decode cX14_init 15 = .ok (.aload_n 3, 1) := dk_45 (dk_at dksX14_init_0 15 rfl rfl)
theorem dX14_init_16 : decode cX14_init 16 = .ok (.putfield 19, 3) := dk_181 0 19 (dk_at dksX14_init_0 16 rfl rfl)
theorem dX14_init_19 : decode cX14_init 19 = .ok (.return_, 1) := dk_177 (dk_at dksX14_init_0 19 rfl rfl)
abbrev cX14_read : ByteArray := prog_9_method_10_code
def yX14_read : MethodName := ⟨RX14, "read", "()I"⟩
def dkwX14_read_1 : List UInt8 := [182, 0, 77, 154, 0, 8, 42, 182, 0, 73, 191, 42, 182, 0, 133, 132, 1, 1, 167, 255, 224, 27, 172]
abbrev dktX14_read_1 : List UInt8 := dkwX14_read_1 ++ []
def dkwX14_read_0 : List UInt8 := [4, 60, 42, 182, 0, 70, 42, 182, 0, 133, 42, 180, 0, 30, 42, 180, 0, 15, 162, 0, 27, 42, 18, 57]
abbrev dktX14_read_0 : List UInt8 := dkwX14_read_0 ++ dktX14_read_1
theorem dksX14_read_0 : cX14_read.data.toList.drop 0 = dktX14_read_0 := by decide +kernel
theorem dksX14_read_1 : cX14_read.data.toList.drop 24 = dktX14_read_1 := dk_seg dksX14_read_0 24 rfl rfl
theorem dX14_read_0 : decode cX14_read 0 = .ok (.iconst 1, 1) := dk_4 (dk_at dksX14_read_0 0 rfl rfl)
theorem dX14_read_1 : decode cX14_read 1 = .ok (.istore_n 1, 1) := dk_60 (dk_at dksX14_read_0 1 rfl rfl)
theorem dX14_read_2 : decode cX14_read 2 = .ok (.aload_n 0, 1) := dk_42 (dk_at dksX14_read_0 2 rfl rfl)
theorem dX14_read_3 : decode cX14_read 3 = .ok (.invokevirtual 70, 3) := dk_182 0 70 (dk_at dksX14_read_0 3 rfl rfl)
theorem dX14_read_6 : decode cX14_read 6 = .ok (.aload_n 0, 1) := dk_42 (dk_at dksX14_read_0 6 rfl rfl)
theorem dX14_read_7 : decode cX14_read 7 = .ok (.invokevirtual 133, 3) := dk_182 0 133 (dk_at dksX14_read_0 7 rfl rfl)
theorem dX14_read_10 : decode cX14_read 10 = .ok (.aload_n 0, 1) := dk_42 (dk_at dksX14_read_0 10 rfl rfl)
theorem dX14_read_11 : decode cX14_read 11 = .ok (.getfield 30, 3) := dk_180 0 30 (dk_at dksX14_read_0 11 rfl rfl)
theorem dX14_read_14 : decode cX14_read 14 = .ok (.aload_n 0, 1) := dk_42 (dk_at dksX14_read_0 14 rfl rfl)
theorem dX14_read_15 : decode cX14_read 15 = .ok (.getfield 15, 3) := dk_180 0 15 (dk_at dksX14_read_0 15 rfl rfl)
theorem dX14_read_18 : decode cX14_read 18 = .ok (.if_icmp .ge 27, 3) := dk_162 0 27 (dk_at dksX14_read_0 18 rfl rfl)
theorem dX14_read_21 : decode cX14_read 21 = .ok (.aload_n 0, 1) := dk_42 (dk_at dksX14_read_0 21 rfl rfl)
theorem dX14_read_22 : decode cX14_read 22 = .ok (.ldc 57, 2) := dk_18 57 (dk_at dksX14_read_0 22 rfl rfl)
theorem dX14_read_24 : decode cX14_read 24 = .ok (.invokevirtual 77, 3) := dk_182 0 77 (dk_at dksX14_read_1 0 rfl rfl)
theorem dX14_read_27 : decode cX14_read 27 = .ok (.ifCond .ne 8, 3) := dk_154 0 8 (dk_at dksX14_read_1 3 rfl rfl)
theorem dX14_read_30 : decode cX14_read 30 = .ok (.aload_n 0, 1) := dk_42 (dk_at dksX14_read_1 6 rfl rfl)
theorem dX14_read_31 : decode cX14_read 31 = .ok (.invokevirtual 73, 3) := dk_182 0 73 (dk_at dksX14_read_1 7 rfl rfl)
theorem dX14_read_34 : decode cX14_read 34 = .ok (.athrow, 1) := dk_191 (dk_at dksX14_read_1 10 rfl rfl)
theorem dX14_read_35 : decode cX14_read 35 = .ok (.aload_n 0, 1) := dk_42 (dk_at dksX14_read_1 11 rfl rfl)
theorem dX14_read_36 : decode cX14_read 36 = .ok (.invokevirtual 133, 3) := dk_182 0 133 (dk_at dksX14_read_1 12 rfl rfl)
theorem dX14_read_39 : decode cX14_read 39 = .ok (.iinc 1 1, 3) := dk_132 1 1 (dk_at dksX14_read_1 15 rfl rfl)
theorem dX14_read_42 : decode cX14_read 42 = .ok (.goto (-32), 3) := dk_167 255 224 (dk_at dksX14_read_1 18 rfl rfl)
theorem dX14_read_45 : decode cX14_read 45 = .ok (.iload_n 1, 1) := dk_27 (dk_at dksX14_read_1 21 rfl rfl)
theorem dX14_read_46 : decode cX14_read 46 = .ok (.ireturn, 1) := dk_172 (dk_at dksX14_read_1 22 rfl rfl)
abbrev cX14_next : ByteArray := prog_9_method_3_code
def yX14_next : MethodName := ⟨RX14, "next", "()V"⟩
def dkwX14_next_9 : List UInt8 := [42, 18, 57, 181, 0, 33, 42, 89, 180, 0, 23, 4, 96, 181, 0, 23, 177]
abbrev dktX14_next_9 : List UInt8 := dkwX14_next_9 ++ []
def dkwX14_next_8 : List UInt8 := [17, 3, 232, 167, 0, 4, 27, 181, 0, 37, 167, 0, 30, 42, 16, 59, 16, 59, 182, 0, 26, 153, 0, 19]
abbrev dktX14_next_8 : List UInt8 := dkwX14_next_8 ++ dktX14_next_9
def dkwX14_next_7 : List UInt8 := [4, 96, 181, 0, 23, 167, 255, 211, 42, 42, 180, 0, 23, 42, 180, 0, 30, 100, 6, 164, 0, 9]
abbrev dktX14_next_7 : List UInt8 := dkwX14_next_7 ++ dktX14_next_8
def dkwX14_next_6 : List UInt8 := [27, 104, 42, 180, 0, 9, 42, 180, 0, 23, 46, 96, 16, 48, 100, 184, 0, 51, 60, 42, 89, 180, 0, 23]
abbrev dktX14_next_6 : List UInt8 := dkwX14_next_6 ++ dktX14_next_7
def dkwX14_next_5 : List UInt8 := [182, 0, 26, 153, 0, 80, 3, 60, 42, 16, 48, 16, 57, 182, 0, 26, 153, 0, 40, 17, 3, 232, 16, 10]
abbrev dktX14_next_5 : List UInt8 := dkwX14_next_5 ++ dktX14_next_6
def dkwX14_next_4 : List UInt8 := [96, 181, 0, 23, 167, 255, 220, 42, 43, 182, 0, 47, 181, 0, 33, 167, 0, 118, 42, 16, 48, 16, 57]
abbrev dktX14_next_4 : List UInt8 := dkwX14_next_4 ++ dktX14_next_5
def dkwX14_next_3 : List UInt8 := [153, 0, 31, 43, 42, 180, 0, 9, 42, 180, 0, 23, 46, 146, 182, 0, 43, 87, 42, 89, 180, 0, 23, 4]
abbrev dktX14_next_3 : List UInt8 := dkwX14_next_3 ++ dktX14_next_4
def dkwX14_next_2 : List UInt8 := [182, 0, 26, 153, 0, 61, 187, 0, 40, 89, 183, 0, 42, 76, 42, 16, 97, 16, 122, 182, 0, 26]
abbrev dktX14_next_2 : List UInt8 := dkwX14_next_2 ++ dktX14_next_3
def dkwX14_next_1 : List UInt8 := [42, 42, 180, 0, 23, 181, 0, 30, 42, 1, 181, 0, 33, 42, 2, 181, 0, 37, 42, 16, 97, 16, 122]
abbrev dktX14_next_1 : List UInt8 := dkwX14_next_1 ++ dktX14_next_2
def dkwX14_next_0 : List UInt8 := [42, 16, 32, 16, 32, 182, 0, 26, 153, 0, 16, 42, 89, 180, 0, 23, 4, 96, 181, 0, 23, 167, 255, 235]
abbrev dktX14_next_0 : List UInt8 := dkwX14_next_0 ++ dktX14_next_1
theorem dksX14_next_0 : cX14_next.data.toList.drop 0 = dktX14_next_0 := by decide +kernel
theorem dksX14_next_1 : cX14_next.data.toList.drop 24 = dktX14_next_1 := dk_seg dksX14_next_0 24 rfl rfl
theorem dksX14_next_2 : cX14_next.data.toList.drop 47 = dktX14_next_2 := dk_seg dksX14_next_1 23 rfl rfl
theorem dksX14_next_3 : cX14_next.data.toList.drop 69 = dktX14_next_3 := dk_seg dksX14_next_2 22 rfl rfl
theorem dksX14_next_4 : cX14_next.data.toList.drop 93 = dktX14_next_4 := dk_seg dksX14_next_3 24 rfl rfl
theorem dksX14_next_5 : cX14_next.data.toList.drop 116 = dktX14_next_5 := dk_seg dksX14_next_4 23 rfl rfl
theorem dksX14_next_6 : cX14_next.data.toList.drop 140 = dktX14_next_6 := dk_seg dksX14_next_5 24 rfl rfl
theorem dksX14_next_7 : cX14_next.data.toList.drop 164 = dktX14_next_7 := dk_seg dksX14_next_6 24 rfl rfl
theorem dksX14_next_8 : cX14_next.data.toList.drop 186 = dktX14_next_8 := dk_seg dksX14_next_7 22 rfl rfl
theorem dksX14_next_9 : cX14_next.data.toList.drop 210 = dktX14_next_9 := dk_seg dksX14_next_8 24 rfl rfl
theorem dX14_next_0 : decode cX14_next 0 = .ok (.aload_n 0, 1) := dk_42 (dk_at dksX14_next_0 0 rfl rfl)
theorem dX14_next_1 : decode cX14_next 1 = .ok (.bipush 32, 2) := dk_16 32 (dk_at dksX14_next_0 1 rfl rfl)
theorem dX14_next_3 : decode cX14_next 3 = .ok (.bipush 32, 2) := dk_16 32 (dk_at dksX14_next_0 3 rfl rfl)
theorem dX14_next_5 : decode cX14_next 5 = .ok (.invokevirtual 26, 3) := dk_182 0 26 (dk_at dksX14_next_0 5 rfl rfl)
theorem dX14_next_8 : decode cX14_next 8 = .ok (.ifCond .eq 16, 3) := dk_153 0 16 (dk_at dksX14_next_0 8 rfl rfl)
theorem dX14_next_11 : decode cX14_next 11 = .ok (.aload_n 0, 1) := dk_42 (dk_at dksX14_next_0 11 rfl rfl)
theorem dX14_next_12 : decode cX14_next 12 = .ok (.dup, 1) := dk_89 (dk_at dksX14_next_0 12 rfl rfl)
theorem dX14_next_13 : decode cX14_next 13 = .ok (.getfield 23, 3) := dk_180 0 23 (dk_at dksX14_next_0 13 rfl rfl)
theorem dX14_next_16 : decode cX14_next 16 = .ok (.iconst 1, 1) := dk_4 (dk_at dksX14_next_0 16 rfl rfl)
theorem dX14_next_17 : decode cX14_next 17 = .ok (.iadd, 1) := dk_96 (dk_at dksX14_next_0 17 rfl rfl)
theorem dX14_next_18 : decode cX14_next 18 = .ok (.putfield 23, 3) := dk_181 0 23 (dk_at dksX14_next_0 18 rfl rfl)
theorem dX14_next_21 : decode cX14_next 21 = .ok (.goto (-21), 3) := dk_167 255 235 (dk_at dksX14_next_0 21 rfl rfl)
theorem dX14_next_24 : decode cX14_next 24 = .ok (.aload_n 0, 1) := dk_42 (dk_at dksX14_next_1 0 rfl rfl)
theorem dX14_next_25 : decode cX14_next 25 = .ok (.aload_n 0, 1) := dk_42 (dk_at dksX14_next_1 1 rfl rfl)
theorem dX14_next_26 : decode cX14_next 26 = .ok (.getfield 23, 3) := dk_180 0 23 (dk_at dksX14_next_1 2 rfl rfl)
theorem dX14_next_29 : decode cX14_next 29 = .ok (.putfield 30, 3) := dk_181 0 30 (dk_at dksX14_next_1 5 rfl rfl)
theorem dX14_next_32 : decode cX14_next 32 = .ok (.aload_n 0, 1) := dk_42 (dk_at dksX14_next_1 8 rfl rfl)
theorem dX14_next_33 : decode cX14_next 33 = .ok (.aconst_null, 1) := dk_1 (dk_at dksX14_next_1 9 rfl rfl)
theorem dX14_next_34 : decode cX14_next 34 = .ok (.putfield 33, 3) := dk_181 0 33 (dk_at dksX14_next_1 10 rfl rfl)
theorem dX14_next_37 : decode cX14_next 37 = .ok (.aload_n 0, 1) := dk_42 (dk_at dksX14_next_1 13 rfl rfl)
theorem dX14_next_38 : decode cX14_next 38 = .ok (.iconst (-1), 1) := dk_2 (dk_at dksX14_next_1 14 rfl rfl)
theorem dX14_next_39 : decode cX14_next 39 = .ok (.putfield 37, 3) := dk_181 0 37 (dk_at dksX14_next_1 15 rfl rfl)
theorem dX14_next_42 : decode cX14_next 42 = .ok (.aload_n 0, 1) := dk_42 (dk_at dksX14_next_1 18 rfl rfl)
theorem dX14_next_43 : decode cX14_next 43 = .ok (.bipush 97, 2) := dk_16 97 (dk_at dksX14_next_1 19 rfl rfl)
theorem dX14_next_45 : decode cX14_next 45 = .ok (.bipush 122, 2) := dk_16 122 (dk_at dksX14_next_1 21 rfl rfl)
theorem dX14_next_47 : decode cX14_next 47 = .ok (.invokevirtual 26, 3) := dk_182 0 26 (dk_at dksX14_next_2 0 rfl rfl)
theorem dX14_next_50 : decode cX14_next 50 = .ok (.ifCond .eq 61, 3) := dk_153 0 61 (dk_at dksX14_next_2 3 rfl rfl)
theorem dX14_next_53 : decode cX14_next 53 = .ok (.new 40, 3) := dk_187 0 40 (dk_at dksX14_next_2 6 rfl rfl)
theorem dX14_next_56 : decode cX14_next 56 = .ok (.dup, 1) := dk_89 (dk_at dksX14_next_2 9 rfl rfl)
theorem dX14_next_57 : decode cX14_next 57 = .ok (.invokespecial 42, 3) := dk_183 0 42 (dk_at dksX14_next_2 10 rfl rfl)
theorem dX14_next_60 : decode cX14_next 60 = .ok (.astore_n 1, 1) := dk_76 (dk_at dksX14_next_2 13 rfl rfl)
theorem dX14_next_61 : decode cX14_next 61 = .ok (.aload_n 0, 1) := dk_42 (dk_at dksX14_next_2 14 rfl rfl)
theorem dX14_next_62 : decode cX14_next 62 = .ok (.bipush 97, 2) := dk_16 97 (dk_at dksX14_next_2 15 rfl rfl)
theorem dX14_next_64 : decode cX14_next 64 = .ok (.bipush 122, 2) := dk_16 122 (dk_at dksX14_next_2 17 rfl rfl)
theorem dX14_next_66 : decode cX14_next 66 = .ok (.invokevirtual 26, 3) := dk_182 0 26 (dk_at dksX14_next_2 19 rfl rfl)
theorem dX14_next_69 : decode cX14_next 69 = .ok (.ifCond .eq 31, 3) := dk_153 0 31 (dk_at dksX14_next_3 0 rfl rfl)
theorem dX14_next_72 : decode cX14_next 72 = .ok (.aload_n 1, 1) := dk_43 (dk_at dksX14_next_3 3 rfl rfl)
theorem dX14_next_73 : decode cX14_next 73 = .ok (.aload_n 0, 1) := dk_42 (dk_at dksX14_next_3 4 rfl rfl)
theorem dX14_next_74 : decode cX14_next 74 = .ok (.getfield 9, 3) := dk_180 0 9 (dk_at dksX14_next_3 5 rfl rfl)
theorem dX14_next_77 : decode cX14_next 77 = .ok (.aload_n 0, 1) := dk_42 (dk_at dksX14_next_3 8 rfl rfl)
theorem dX14_next_78 : decode cX14_next 78 = .ok (.getfield 23, 3) := dk_180 0 23 (dk_at dksX14_next_3 9 rfl rfl)
theorem dX14_next_81 : decode cX14_next 81 = .ok (.iaload, 1) := dk_46 (dk_at dksX14_next_3 12 rfl rfl)
theorem dX14_next_82 : decode cX14_next 82 = .ok (.i2c, 1) := dk_146 (dk_at dksX14_next_3 13 rfl rfl)
theorem dX14_next_83 : decode cX14_next 83 = .ok (.invokevirtual 43, 3) := dk_182 0 43 (dk_at dksX14_next_3 14 rfl rfl)
theorem dX14_next_86 : decode cX14_next 86 = .ok (.pop, 1) := dk_87 (dk_at dksX14_next_3 17 rfl rfl)
theorem dX14_next_87 : decode cX14_next 87 = .ok (.aload_n 0, 1) := dk_42 (dk_at dksX14_next_3 18 rfl rfl)
theorem dX14_next_88 : decode cX14_next 88 = .ok (.dup, 1) := dk_89 (dk_at dksX14_next_3 19 rfl rfl)
theorem dX14_next_89 : decode cX14_next 89 = .ok (.getfield 23, 3) := dk_180 0 23 (dk_at dksX14_next_3 20 rfl rfl)
theorem dX14_next_92 : decode cX14_next 92 = .ok (.iconst 1, 1) := dk_4 (dk_at dksX14_next_3 23 rfl rfl)
theorem dX14_next_93 : decode cX14_next 93 = .ok (.iadd, 1) := dk_96 (dk_at dksX14_next_4 0 rfl rfl)
theorem dX14_next_94 : decode cX14_next 94 = .ok (.putfield 23, 3) := dk_181 0 23 (dk_at dksX14_next_4 1 rfl rfl)
theorem dX14_next_97 : decode cX14_next 97 = .ok (.goto (-36), 3) := dk_167 255 220 (dk_at dksX14_next_4 4 rfl rfl)
theorem dX14_next_100 : decode cX14_next 100 = .ok (.aload_n 0, 1) := dk_42 (dk_at dksX14_next_4 7 rfl rfl)
theorem dX14_next_101 : decode cX14_next 101 = .ok (.aload_n 1, 1) := dk_43 (dk_at dksX14_next_4 8 rfl rfl)
theorem dX14_next_102 : decode cX14_next 102 = .ok (.invokevirtual 47, 3) := dk_182 0 47 (dk_at dksX14_next_4 9 rfl rfl)
theorem dX14_next_105 : decode cX14_next 105 = .ok (.putfield 33, 3) := dk_181 0 33 (dk_at dksX14_next_4 12 rfl rfl)
theorem dX14_next_108 : decode cX14_next 108 = .ok (.goto 118, 3) := dk_167 0 118 (dk_at dksX14_next_4 15 rfl rfl)
theorem dX14_next_111 : decode cX14_next 111 = .ok (.aload_n 0, 1) := dk_42 (dk_at dksX14_next_4 18 rfl rfl)
theorem dX14_next_112 : decode cX14_next 112 = .ok (.bipush 48, 2) := dk_16 48 (dk_at dksX14_next_4 19 rfl rfl)
theorem dX14_next_114 : decode cX14_next 114 = .ok (.bipush 57, 2) := dk_16 57 (dk_at dksX14_next_4 21 rfl rfl)
theorem dX14_next_116 : decode cX14_next 116 = .ok (.invokevirtual 26, 3) := dk_182 0 26 (dk_at dksX14_next_5 0 rfl rfl)
theorem dX14_next_119 : decode cX14_next 119 = .ok (.ifCond .eq 80, 3) := dk_153 0 80 (dk_at dksX14_next_5 3 rfl rfl)
theorem dX14_next_122 : decode cX14_next 122 = .ok (.iconst 0, 1) := dk_3 (dk_at dksX14_next_5 6 rfl rfl)
theorem dX14_next_123 : decode cX14_next 123 = .ok (.istore_n 1, 1) := dk_60 (dk_at dksX14_next_5 7 rfl rfl)
theorem dX14_next_124 : decode cX14_next 124 = .ok (.aload_n 0, 1) := dk_42 (dk_at dksX14_next_5 8 rfl rfl)
theorem dX14_next_125 : decode cX14_next 125 = .ok (.bipush 48, 2) := dk_16 48 (dk_at dksX14_next_5 9 rfl rfl)
theorem dX14_next_127 : decode cX14_next 127 = .ok (.bipush 57, 2) := dk_16 57 (dk_at dksX14_next_5 11 rfl rfl)
theorem dX14_next_129 : decode cX14_next 129 = .ok (.invokevirtual 26, 3) := dk_182 0 26 (dk_at dksX14_next_5 13 rfl rfl)
theorem dX14_next_132 : decode cX14_next 132 = .ok (.ifCond .eq 40, 3) := dk_153 0 40 (dk_at dksX14_next_5 16 rfl rfl)
theorem dX14_next_135 : decode cX14_next 135 = .ok (.sipush 1000, 3) := dk_17 3 232 (dk_at dksX14_next_5 19 rfl rfl)
theorem dX14_next_138 : decode cX14_next 138 = .ok (.bipush 10, 2) := dk_16 10 (dk_at dksX14_next_5 22 rfl rfl)
theorem dX14_next_140 : decode cX14_next 140 = .ok (.iload_n 1, 1) := dk_27 (dk_at dksX14_next_6 0 rfl rfl)
theorem dX14_next_141 : decode cX14_next 141 = .ok (.imul, 1) := dk_104 (dk_at dksX14_next_6 1 rfl rfl)
theorem dX14_next_142 : decode cX14_next 142 = .ok (.aload_n 0, 1) := dk_42 (dk_at dksX14_next_6 2 rfl rfl)
theorem dX14_next_143 : decode cX14_next 143 = .ok (.getfield 9, 3) := dk_180 0 9 (dk_at dksX14_next_6 3 rfl rfl)
theorem dX14_next_146 : decode cX14_next 146 = .ok (.aload_n 0, 1) := dk_42 (dk_at dksX14_next_6 6 rfl rfl)
theorem dX14_next_147 : decode cX14_next 147 = .ok (.getfield 23, 3) := dk_180 0 23 (dk_at dksX14_next_6 7 rfl rfl)
theorem dX14_next_150 : decode cX14_next 150 = .ok (.iaload, 1) := dk_46 (dk_at dksX14_next_6 10 rfl rfl)
theorem dX14_next_151 : decode cX14_next 151 = .ok (.iadd, 1) := dk_96 (dk_at dksX14_next_6 11 rfl rfl)
theorem dX14_next_152 : decode cX14_next 152 = .ok (.bipush 48, 2) := dk_16 48 (dk_at dksX14_next_6 12 rfl rfl)
theorem dX14_next_154 : decode cX14_next 154 = .ok (.isub, 1) := dk_100 (dk_at dksX14_next_6 14 rfl rfl)
theorem dX14_next_155 : decode cX14_next 155 = .ok (.invokestatic 51, 3) := dk_184 0 51 (dk_at dksX14_next_6 15 rfl rfl)
theorem dX14_next_158 : decode cX14_next 158 = .ok (.istore_n 1, 1) := dk_60 (dk_at dksX14_next_6 18 rfl rfl)
theorem dX14_next_159 : decode cX14_next 159 = .ok (.aload_n 0, 1) := dk_42 (dk_at dksX14_next_6 19 rfl rfl)
theorem dX14_next_160 : decode cX14_next 160 = .ok (.dup, 1) := dk_89 (dk_at dksX14_next_6 20 rfl rfl)
theorem dX14_next_161 : decode cX14_next 161 = .ok (.getfield 23, 3) := dk_180 0 23 (dk_at dksX14_next_6 21 rfl rfl)
theorem dX14_next_164 : decode cX14_next 164 = .ok (.iconst 1, 1) := dk_4 (dk_at dksX14_next_7 0 rfl rfl)
theorem dX14_next_165 : decode cX14_next 165 = .ok (.iadd, 1) := dk_96 (dk_at dksX14_next_7 1 rfl rfl)
theorem dX14_next_166 : decode cX14_next 166 = .ok (.putfield 23, 3) := dk_181 0 23 (dk_at dksX14_next_7 2 rfl rfl)
theorem dX14_next_169 : decode cX14_next 169 = .ok (.goto (-45), 3) := dk_167 255 211 (dk_at dksX14_next_7 5 rfl rfl)
theorem dX14_next_172 : decode cX14_next 172 = .ok (.aload_n 0, 1) := dk_42 (dk_at dksX14_next_7 8 rfl rfl)
theorem dX14_next_173 : decode cX14_next 173 = .ok (.aload_n 0, 1) := dk_42 (dk_at dksX14_next_7 9 rfl rfl)
theorem dX14_next_174 : decode cX14_next 174 = .ok (.getfield 23, 3) := dk_180 0 23 (dk_at dksX14_next_7 10 rfl rfl)
theorem dX14_next_177 : decode cX14_next 177 = .ok (.aload_n 0, 1) := dk_42 (dk_at dksX14_next_7 13 rfl rfl)
theorem dX14_next_178 : decode cX14_next 178 = .ok (.getfield 30, 3) := dk_180 0 30 (dk_at dksX14_next_7 14 rfl rfl)
theorem dX14_next_181 : decode cX14_next 181 = .ok (.isub, 1) := dk_100 (dk_at dksX14_next_7 17 rfl rfl)
theorem dX14_next_182 : decode cX14_next 182 = .ok (.iconst 3, 1) := dk_6 (dk_at dksX14_next_7 18 rfl rfl)
theorem dX14_next_183 : decode cX14_next 183 = .ok (.if_icmp .le 9, 3) := dk_164 0 9 (dk_at dksX14_next_7 19 rfl rfl)
theorem dX14_next_186 : decode cX14_next 186 = .ok (.sipush 1000, 3) := dk_17 3 232 (dk_at dksX14_next_8 0 rfl rfl)
theorem dX14_next_189 : decode cX14_next 189 = .ok (.goto 4, 3) := dk_167 0 4 (dk_at dksX14_next_8 3 rfl rfl)
theorem dX14_next_192 : decode cX14_next 192 = .ok (.iload_n 1, 1) := dk_27 (dk_at dksX14_next_8 6 rfl rfl)
theorem dX14_next_193 : decode cX14_next 193 = .ok (.putfield 37, 3) := dk_181 0 37 (dk_at dksX14_next_8 7 rfl rfl)
theorem dX14_next_196 : decode cX14_next 196 = .ok (.goto 30, 3) := dk_167 0 30 (dk_at dksX14_next_8 10 rfl rfl)
theorem dX14_next_199 : decode cX14_next 199 = .ok (.aload_n 0, 1) := dk_42 (dk_at dksX14_next_8 13 rfl rfl)
theorem dX14_next_200 : decode cX14_next 200 = .ok (.bipush 59, 2) := dk_16 59 (dk_at dksX14_next_8 14 rfl rfl)
theorem dX14_next_202 : decode cX14_next 202 = .ok (.bipush 59, 2) := dk_16 59 (dk_at dksX14_next_8 16 rfl rfl)
theorem dX14_next_204 : decode cX14_next 204 = .ok (.invokevirtual 26, 3) := dk_182 0 26 (dk_at dksX14_next_8 18 rfl rfl)
theorem dX14_next_207 : decode cX14_next 207 = .ok (.ifCond .eq 19, 3) := dk_153 0 19 (dk_at dksX14_next_8 21 rfl rfl)
theorem dX14_next_210 : decode cX14_next 210 = .ok (.aload_n 0, 1) := dk_42 (dk_at dksX14_next_9 0 rfl rfl)
theorem dX14_next_211 : decode cX14_next 211 = .ok (.ldc 57, 2) := dk_18 57 (dk_at dksX14_next_9 1 rfl rfl)
theorem dX14_next_213 : decode cX14_next 213 = .ok (.putfield 33, 3) := dk_181 0 33 (dk_at dksX14_next_9 3 rfl rfl)
theorem dX14_next_216 : decode cX14_next 216 = .ok (.aload_n 0, 1) := dk_42 (dk_at dksX14_next_9 6 rfl rfl)
theorem dX14_next_217 : decode cX14_next 217 = .ok (.dup, 1) := dk_89 (dk_at dksX14_next_9 7 rfl rfl)
theorem dX14_next_218 : decode cX14_next 218 = .ok (.getfield 23, 3) := dk_180 0 23 (dk_at dksX14_next_9 8 rfl rfl)
theorem dX14_next_221 : decode cX14_next 221 = .ok (.iconst 1, 1) := dk_4 (dk_at dksX14_next_9 11 rfl rfl)
theorem dX14_next_222 : decode cX14_next 222 = .ok (.iadd, 1) := dk_96 (dk_at dksX14_next_9 12 rfl rfl)
theorem dX14_next_223 : decode cX14_next 223 = .ok (.putfield 23, 3) := dk_181 0 23 (dk_at dksX14_next_9 13 rfl rfl)
theorem dX14_next_226 : decode cX14_next 226 = .ok (.return_, 1) := dk_177 (dk_at dksX14_next_9 16 rfl rfl)
abbrev cX14_isIn : ByteArray := prog_9_method_2_code
def yX14_isIn : MethodName := ⟨RX14, "isIn", "(II)Z"⟩
def dkwX14_isIn_1 : List UInt8 := [42, 180, 0, 9, 42, 180, 0, 23, 46, 28, 163, 0, 7, 4, 167, 0, 4, 3, 172]
abbrev dktX14_isIn_1 : List UInt8 := dkwX14_isIn_1 ++ []
def dkwX14_isIn_0 : List UInt8 := [42, 180, 0, 23, 42, 180, 0, 15, 162, 0, 33, 42, 180, 0, 9, 42, 180, 0, 23, 46, 27, 161, 0, 20]
abbrev dktX14_isIn_0 : List UInt8 := dkwX14_isIn_0 ++ dktX14_isIn_1
theorem dksX14_isIn_0 : cX14_isIn.data.toList.drop 0 = dktX14_isIn_0 := by decide +kernel
theorem dksX14_isIn_1 : cX14_isIn.data.toList.drop 24 = dktX14_isIn_1 := dk_seg dksX14_isIn_0 24 rfl rfl
theorem dX14_isIn_0 : decode cX14_isIn 0 = .ok (.aload_n 0, 1) := dk_42 (dk_at dksX14_isIn_0 0 rfl rfl)
theorem dX14_isIn_1 : decode cX14_isIn 1 = .ok (.getfield 23, 3) := dk_180 0 23 (dk_at dksX14_isIn_0 1 rfl rfl)
theorem dX14_isIn_4 : decode cX14_isIn 4 = .ok (.aload_n 0, 1) := dk_42 (dk_at dksX14_isIn_0 4 rfl rfl)
theorem dX14_isIn_5 : decode cX14_isIn 5 = .ok (.getfield 15, 3) := dk_180 0 15 (dk_at dksX14_isIn_0 5 rfl rfl)
theorem dX14_isIn_8 : decode cX14_isIn 8 = .ok (.if_icmp .ge 33, 3) := dk_162 0 33 (dk_at dksX14_isIn_0 8 rfl rfl)
theorem dX14_isIn_11 : decode cX14_isIn 11 = .ok (.aload_n 0, 1) := dk_42 (dk_at dksX14_isIn_0 11 rfl rfl)
theorem dX14_isIn_12 : decode cX14_isIn 12 = .ok (.getfield 9, 3) := dk_180 0 9 (dk_at dksX14_isIn_0 12 rfl rfl)
theorem dX14_isIn_15 : decode cX14_isIn 15 = .ok (.aload_n 0, 1) := dk_42 (dk_at dksX14_isIn_0 15 rfl rfl)
theorem dX14_isIn_16 : decode cX14_isIn 16 = .ok (.getfield 23, 3) := dk_180 0 23 (dk_at dksX14_isIn_0 16 rfl rfl)
theorem dX14_isIn_19 : decode cX14_isIn 19 = .ok (.iaload, 1) := dk_46 (dk_at dksX14_isIn_0 19 rfl rfl)
theorem dX14_isIn_20 : decode cX14_isIn 20 = .ok (.iload_n 1, 1) := dk_27 (dk_at dksX14_isIn_0 20 rfl rfl)
theorem dX14_isIn_21 : decode cX14_isIn 21 = .ok (.if_icmp .lt 20, 3) := dk_161 0 20 (dk_at dksX14_isIn_0 21 rfl rfl)
theorem dX14_isIn_24 : decode cX14_isIn 24 = .ok (.aload_n 0, 1) := dk_42 (dk_at dksX14_isIn_1 0 rfl rfl)
theorem dX14_isIn_25 : decode cX14_isIn 25 = .ok (.getfield 9, 3) := dk_180 0 9 (dk_at dksX14_isIn_1 1 rfl rfl)
theorem dX14_isIn_28 : decode cX14_isIn 28 = .ok (.aload_n 0, 1) := dk_42 (dk_at dksX14_isIn_1 4 rfl rfl)
theorem dX14_isIn_29 : decode cX14_isIn 29 = .ok (.getfield 23, 3) := dk_180 0 23 (dk_at dksX14_isIn_1 5 rfl rfl)
theorem dX14_isIn_32 : decode cX14_isIn 32 = .ok (.iaload, 1) := dk_46 (dk_at dksX14_isIn_1 8 rfl rfl)
theorem dX14_isIn_33 : decode cX14_isIn 33 = .ok (.iload_n 2, 1) := dk_28 (dk_at dksX14_isIn_1 9 rfl rfl)
theorem dX14_isIn_34 : decode cX14_isIn 34 = .ok (.if_icmp .gt 7, 3) := dk_163 0 7 (dk_at dksX14_isIn_1 10 rfl rfl)
theorem dX14_isIn_37 : decode cX14_isIn 37 = .ok (.iconst 1, 1) := dk_4 (dk_at dksX14_isIn_1 13 rfl rfl)
theorem dX14_isIn_38 : decode cX14_isIn 38 = .ok (.goto 4, 3) := dk_167 0 4 (dk_at dksX14_isIn_1 14 rfl rfl)
theorem dX14_isIn_41 : decode cX14_isIn 41 = .ok (.iconst 0, 1) := dk_3 (dk_at dksX14_isIn_1 17 rfl rfl)
theorem dX14_isIn_42 : decode cX14_isIn 42 = .ok (.ireturn, 1) := dk_172 (dk_at dksX14_isIn_1 18 rfl rfl)
abbrev cX14_item : ByteArray := prog_9_method_9_code
def yX14_item : MethodName := ⟨RX14, "item", "()V"⟩
def dkwX14_item_11 : List UInt8 := [182, 0, 73, 191, 177]
abbrev dktX14_item_11 : List UInt8 := dkwX14_item_11 ++ []
def dkwX14_item_10 : List UInt8 := [42, 182, 0, 70, 42, 180, 0, 19, 42, 3, 16, 99, 182, 0, 81, 181, 0, 131, 167, 0, 8, 42]
abbrev dktX14_item_10 : List UInt8 := dkwX14_item_10 ++ dktX14_item_11
def dkwX14_item_9 : List UInt8 := [167, 0, 50, 42, 182, 0, 70, 42, 180, 0, 19, 42, 3, 16, 10, 182, 0, 81, 181, 0, 129, 167, 0, 29]
abbrev dktX14_item_9 : List UInt8 := dkwX14_item_9 ++ dktX14_item_10
def dkwX14_item_8 : List UInt8 := [42, 180, 0, 19, 180, 0, 125, 29, 42, 3, 16, 10, 182, 0, 81, 79, 167, 0, 57, 42, 182, 0, 127]
abbrev dktX14_item_8 : List UInt8 := dkwX14_item_8 ++ dktX14_item_9
def dkwX14_item_7 : List UInt8 := [180, 0, 122, 29, 46, 7, 182, 0, 81, 79, 167, 0, 87, 42, 182, 0, 70, 42, 3, 5, 182, 0, 81, 62]
abbrev dktX14_item_7 : List UInt8 := dkwX14_item_7 ++ dktX14_item_8
def dkwX14_item_6 : List UInt8 := [42, 182, 0, 70, 42, 3, 5, 182, 0, 81, 62, 42, 180, 0, 19, 180, 0, 119, 29, 42, 42, 180, 0, 19]
abbrev dktX14_item_6 : List UInt8 := dkwX14_item_6 ++ dktX14_item_7
def dkwX14_item_5 : List UInt8 := [170, 0, 0, 0, 0, 0, 0, 152, 0, 0, 0, 0, 0, 0, 0, 4, 0, 0, 0, 36, 0, 0, 0, 73, 0, 0, 0, 103, 0, 0, 0, 110, 0, 0, 0, 131]
abbrev dktX14_item_5 : List UInt8 := dkwX14_item_5 ++ dktX14_item_6
def dkwX14_item_4 : List UInt8 := [153, 0, 19, 6, 61, 167, 0, 14, 43, 18, 117, 182, 0, 64, 153, 0, 5, 7, 61, 28]
abbrev dktX14_item_4 : List UInt8 := dkwX14_item_4 ++ dktX14_item_5
def dkwX14_item_3 : List UInt8 := [61, 167, 0, 42, 43, 18, 113, 182, 0, 64, 153, 0, 33, 5, 61, 167, 0, 28, 43, 18, 115, 182, 0, 64]
abbrev dktX14_item_3 : List UInt8 := dkwX14_item_3 ++ dktX14_item_4
def dkwX14_item_2 : List UInt8 := [43, 18, 109, 182, 0, 64, 153, 0, 61, 3, 61, 167, 0, 56, 43, 18, 111, 182, 0, 64, 153, 0, 47, 4]
abbrev dktX14_item_2 : List UInt8 := dkwX14_item_2 ++ dktX14_item_3
def dkwX14_item_1 : List UInt8 := [171, 0, 0, 0, 116, 0, 0, 0, 5, 0, 1, 125, 203, 0, 0, 0, 49, 0, 1, 202, 239, 0, 0, 0, 105, 0, 48, 127, 150, 0, 0, 0, 63, 0, 51, 136, 40, 0, 0, 0, 91, 0, 53, 245, 158, 0, 0, 0, 77]
abbrev dktX14_item_1 : List UInt8 := dkwX14_item_1 ++ dktX14_item_2
def dkwX14_item_0 : List UInt8 := [42, 180, 0, 33, 199, 0, 8, 42, 182, 0, 73, 191, 42, 180, 0, 33, 76, 2, 61, 43, 182, 0, 106]
abbrev dktX14_item_0 : List UInt8 := dkwX14_item_0 ++ dktX14_item_1
theorem dksX14_item_0 : cX14_item.data.toList.drop 0 = dktX14_item_0 := by decide +kernel
theorem dksX14_item_1 : cX14_item.data.toList.drop 23 = dktX14_item_1 := dk_seg dksX14_item_0 23 rfl rfl
theorem dksX14_item_2 : cX14_item.data.toList.drop 72 = dktX14_item_2 := dk_seg dksX14_item_1 49 rfl rfl
theorem dksX14_item_3 : cX14_item.data.toList.drop 96 = dktX14_item_3 := dk_seg dksX14_item_2 24 rfl rfl
theorem dksX14_item_4 : cX14_item.data.toList.drop 120 = dktX14_item_4 := dk_seg dksX14_item_3 24 rfl rfl
theorem dksX14_item_5 : cX14_item.data.toList.drop 140 = dktX14_item_5 := dk_seg dksX14_item_4 20 rfl rfl
theorem dksX14_item_6 : cX14_item.data.toList.drop 176 = dktX14_item_6 := dk_seg dksX14_item_5 36 rfl rfl
theorem dksX14_item_7 : cX14_item.data.toList.drop 200 = dktX14_item_7 := dk_seg dksX14_item_6 24 rfl rfl
theorem dksX14_item_8 : cX14_item.data.toList.drop 224 = dktX14_item_8 := dk_seg dksX14_item_7 24 rfl rfl
theorem dksX14_item_9 : cX14_item.data.toList.drop 247 = dktX14_item_9 := dk_seg dksX14_item_8 23 rfl rfl
theorem dksX14_item_10 : cX14_item.data.toList.drop 271 = dktX14_item_10 := dk_seg dksX14_item_9 24 rfl rfl
theorem dksX14_item_11 : cX14_item.data.toList.drop 293 = dktX14_item_11 := dk_seg dksX14_item_10 22 rfl rfl
theorem dX14_item_0 : decode cX14_item 0 = .ok (.aload_n 0, 1) := dk_42 (dk_at dksX14_item_0 0 rfl rfl)
theorem dX14_item_1 : decode cX14_item 1 = .ok (.getfield 33, 3) := dk_180 0 33 (dk_at dksX14_item_0 1 rfl rfl)
theorem dX14_item_4 : decode cX14_item 4 = .ok (.ifnonnull 8, 3) := dk_199 0 8 (dk_at dksX14_item_0 4 rfl rfl)
theorem dX14_item_7 : decode cX14_item 7 = .ok (.aload_n 0, 1) := dk_42 (dk_at dksX14_item_0 7 rfl rfl)
theorem dX14_item_8 : decode cX14_item 8 = .ok (.invokevirtual 73, 3) := dk_182 0 73 (dk_at dksX14_item_0 8 rfl rfl)
theorem dX14_item_11 : decode cX14_item 11 = .ok (.athrow, 1) := dk_191 (dk_at dksX14_item_0 11 rfl rfl)
theorem dX14_item_12 : decode cX14_item 12 = .ok (.aload_n 0, 1) := dk_42 (dk_at dksX14_item_0 12 rfl rfl)
theorem dX14_item_13 : decode cX14_item 13 = .ok (.getfield 33, 3) := dk_180 0 33 (dk_at dksX14_item_0 13 rfl rfl)
theorem dX14_item_16 : decode cX14_item 16 = .ok (.astore_n 1, 1) := dk_76 (dk_at dksX14_item_0 16 rfl rfl)
theorem dX14_item_17 : decode cX14_item 17 = .ok (.iconst (-1), 1) := dk_2 (dk_at dksX14_item_0 17 rfl rfl)
theorem dX14_item_18 : decode cX14_item 18 = .ok (.istore_n 2, 1) := dk_61 (dk_at dksX14_item_0 18 rfl rfl)
theorem dX14_item_19 : decode cX14_item 19 = .ok (.aload_n 1, 1) := dk_43 (dk_at dksX14_item_0 19 rfl rfl)
theorem dX14_item_20 : decode cX14_item 20 = .ok (.invokevirtual 106, 3) := dk_182 0 106 (dk_at dksX14_item_0 20 rfl rfl)
theorem dX14_item_23 : decode cX14_item 23 = .ok (.lookupswitch 116 #[(97739, 49), (117487, 105), (3178390, 63), (3377192, 91), (3536286, 77)], 49) := by decide +kernel
theorem dX14_item_72 : decode cX14_item 72 = .ok (.aload_n 1, 1) := dk_43 (dk_at dksX14_item_2 0 rfl rfl)
theorem dX14_item_73 : decode cX14_item 73 = .ok (.ldc 109, 2) := dk_18 109 (dk_at dksX14_item_2 1 rfl rfl)
theorem dX14_item_75 : decode cX14_item 75 = .ok (.invokevirtual 64, 3) := dk_182 0 64 (dk_at dksX14_item_2 3 rfl rfl)
theorem dX14_item_78 : decode cX14_item 78 = .ok (.ifCond .eq 61, 3) := dk_153 0 61 (dk_at dksX14_item_2 6 rfl rfl)
theorem dX14_item_81 : decode cX14_item 81 = .ok (.iconst 0, 1) := dk_3 (dk_at dksX14_item_2 9 rfl rfl)
theorem dX14_item_82 : decode cX14_item 82 = .ok (.istore_n 2, 1) := dk_61 (dk_at dksX14_item_2 10 rfl rfl)
theorem dX14_item_83 : decode cX14_item 83 = .ok (.goto 56, 3) := dk_167 0 56 (dk_at dksX14_item_2 11 rfl rfl)
theorem dX14_item_86 : decode cX14_item 86 = .ok (.aload_n 1, 1) := dk_43 (dk_at dksX14_item_2 14 rfl rfl)
theorem dX14_item_87 : decode cX14_item 87 = .ok (.ldc 111, 2) := dk_18 111 (dk_at dksX14_item_2 15 rfl rfl)
theorem dX14_item_89 : decode cX14_item 89 = .ok (.invokevirtual 64, 3) := dk_182 0 64 (dk_at dksX14_item_2 17 rfl rfl)
theorem dX14_item_92 : decode cX14_item 92 = .ok (.ifCond .eq 47, 3) := dk_153 0 47 (dk_at dksX14_item_2 20 rfl rfl)
theorem dX14_item_95 : decode cX14_item 95 = .ok (.iconst 1, 1) := dk_4 (dk_at dksX14_item_2 23 rfl rfl)
theorem dX14_item_96 : decode cX14_item 96 = .ok (.istore_n 2, 1) := dk_61 (dk_at dksX14_item_3 0 rfl rfl)
theorem dX14_item_97 : decode cX14_item 97 = .ok (.goto 42, 3) := dk_167 0 42 (dk_at dksX14_item_3 1 rfl rfl)
theorem dX14_item_100 : decode cX14_item 100 = .ok (.aload_n 1, 1) := dk_43 (dk_at dksX14_item_3 4 rfl rfl)
theorem dX14_item_101 : decode cX14_item 101 = .ok (.ldc 113, 2) := dk_18 113 (dk_at dksX14_item_3 5 rfl rfl)
theorem dX14_item_103 : decode cX14_item 103 = .ok (.invokevirtual 64, 3) := dk_182 0 64 (dk_at dksX14_item_3 7 rfl rfl)
theorem dX14_item_106 : decode cX14_item 106 = .ok (.ifCond .eq 33, 3) := dk_153 0 33 (dk_at dksX14_item_3 10 rfl rfl)
theorem dX14_item_109 : decode cX14_item 109 = .ok (.iconst 2, 1) := dk_5 (dk_at dksX14_item_3 13 rfl rfl)
theorem dX14_item_110 : decode cX14_item 110 = .ok (.istore_n 2, 1) := dk_61 (dk_at dksX14_item_3 14 rfl rfl)
theorem dX14_item_111 : decode cX14_item 111 = .ok (.goto 28, 3) := dk_167 0 28 (dk_at dksX14_item_3 15 rfl rfl)
theorem dX14_item_114 : decode cX14_item 114 = .ok (.aload_n 1, 1) := dk_43 (dk_at dksX14_item_3 18 rfl rfl)
theorem dX14_item_115 : decode cX14_item 115 = .ok (.ldc 115, 2) := dk_18 115 (dk_at dksX14_item_3 19 rfl rfl)
theorem dX14_item_117 : decode cX14_item 117 = .ok (.invokevirtual 64, 3) := dk_182 0 64 (dk_at dksX14_item_3 21 rfl rfl)
theorem dX14_item_120 : decode cX14_item 120 = .ok (.ifCond .eq 19, 3) := dk_153 0 19 (dk_at dksX14_item_4 0 rfl rfl)
theorem dX14_item_123 : decode cX14_item 123 = .ok (.iconst 3, 1) := dk_6 (dk_at dksX14_item_4 3 rfl rfl)
theorem dX14_item_124 : decode cX14_item 124 = .ok (.istore_n 2, 1) := dk_61 (dk_at dksX14_item_4 4 rfl rfl)
theorem dX14_item_125 : decode cX14_item 125 = .ok (.goto 14, 3) := dk_167 0 14 (dk_at dksX14_item_4 5 rfl rfl)
theorem dX14_item_128 : decode cX14_item 128 = .ok (.aload_n 1, 1) := dk_43 (dk_at dksX14_item_4 8 rfl rfl)
theorem dX14_item_129 : decode cX14_item 129 = .ok (.ldc 117, 2) := dk_18 117 (dk_at dksX14_item_4 9 rfl rfl)
theorem dX14_item_131 : decode cX14_item 131 = .ok (.invokevirtual 64, 3) := dk_182 0 64 (dk_at dksX14_item_4 11 rfl rfl)
theorem dX14_item_134 : decode cX14_item 134 = .ok (.ifCond .eq 5, 3) := dk_153 0 5 (dk_at dksX14_item_4 14 rfl rfl)
theorem dX14_item_137 : decode cX14_item 137 = .ok (.iconst 4, 1) := dk_7 (dk_at dksX14_item_4 17 rfl rfl)
theorem dX14_item_138 : decode cX14_item 138 = .ok (.istore_n 2, 1) := dk_61 (dk_at dksX14_item_4 18 rfl rfl)
theorem dX14_item_139 : decode cX14_item 139 = .ok (.iload_n 2, 1) := dk_28 (dk_at dksX14_item_4 19 rfl rfl)
theorem dX14_item_140 : decode cX14_item 140 = .ok (.tableswitch 152 0 4 #[36, 73, 103, 110, 131], 36) := by decide +kernel
theorem dX14_item_176 : decode cX14_item 176 = .ok (.aload_n 0, 1) := dk_42 (dk_at dksX14_item_6 0 rfl rfl)
theorem dX14_item_177 : decode cX14_item 177 = .ok (.invokevirtual 70, 3) := dk_182 0 70 (dk_at dksX14_item_6 1 rfl rfl)
theorem dX14_item_180 : decode cX14_item 180 = .ok (.aload_n 0, 1) := dk_42 (dk_at dksX14_item_6 4 rfl rfl)
theorem dX14_item_181 : decode cX14_item 181 = .ok (.iconst 0, 1) := dk_3 (dk_at dksX14_item_6 5 rfl rfl)
theorem dX14_item_182 : decode cX14_item 182 = .ok (.iconst 2, 1) := dk_5 (dk_at dksX14_item_6 6 rfl rfl)
theorem dX14_item_183 : decode cX14_item 183 = .ok (.invokevirtual 81, 3) := dk_182 0 81 (dk_at dksX14_item_6 7 rfl rfl)
theorem dX14_item_186 : decode cX14_item 186 = .ok (.istore_n 3, 1) := dk_62 (dk_at dksX14_item_6 10 rfl rfl)
theorem dX14_item_187 : decode cX14_item 187 = .ok (.aload_n 0, 1) := dk_42 (dk_at dksX14_item_6 11 rfl rfl)
theorem dX14_item_188 : decode cX14_item 188 = .ok (.getfield 19, 3) := dk_180 0 19 (dk_at dksX14_item_6 12 rfl rfl)
theorem dX14_item_191 : decode cX14_item 191 = .ok (.getfield 119, 3) := dk_180 0 119 (dk_at dksX14_item_6 15 rfl rfl)
theorem dX14_item_194 : decode cX14_item 194 = .ok (.iload_n 3, 1) := dk_29 (dk_at dksX14_item_6 18 rfl rfl)
theorem dX14_item_195 : decode cX14_item 195 = .ok (.aload_n 0, 1) := dk_42 (dk_at dksX14_item_6 19 rfl rfl)
theorem dX14_item_196 : decode cX14_item 196 = .ok (.aload_n 0, 1) := dk_42 (dk_at dksX14_item_6 20 rfl rfl)
theorem dX14_item_197 : decode cX14_item 197 = .ok (.getfield 19, 3) := dk_180 0 19 (dk_at dksX14_item_6 21 rfl rfl)
theorem dX14_item_200 : decode cX14_item 200 = .ok (.getfield 122, 3) := dk_180 0 122 (dk_at dksX14_item_7 0 rfl rfl)
theorem dX14_item_203 : decode cX14_item 203 = .ok (.iload_n 3, 1) := dk_29 (dk_at dksX14_item_7 3 rfl rfl)
theorem dX14_item_204 : decode cX14_item 204 = .ok (.iaload, 1) := dk_46 (dk_at dksX14_item_7 4 rfl rfl)
theorem dX14_item_205 : decode cX14_item 205 = .ok (.iconst 4, 1) := dk_7 (dk_at dksX14_item_7 5 rfl rfl)
theorem dX14_item_206 : decode cX14_item 206 = .ok (.invokevirtual 81, 3) := dk_182 0 81 (dk_at dksX14_item_7 6 rfl rfl)
theorem dX14_item_209 : decode cX14_item 209 = .ok (.iastore, 1) := dk_79 (dk_at dksX14_item_7 9 rfl rfl)
theorem dX14_item_210 : decode cX14_item 210 = .ok (.goto 87, 3) := dk_167 0 87 (dk_at dksX14_item_7 10 rfl rfl)
theorem dX14_item_213 : decode cX14_item 213 = .ok (.aload_n 0, 1) := dk_42 (dk_at dksX14_item_7 13 rfl rfl)
theorem dX14_item_214 : decode cX14_item 214 = .ok (.invokevirtual 70, 3) := dk_182 0 70 (dk_at dksX14_item_7 14 rfl rfl)
theorem dX14_item_217 : decode cX14_item 217 = .ok (.aload_n 0, 1) := dk_42 (dk_at dksX14_item_7 17 rfl rfl)
theorem dX14_item_218 : decode cX14_item 218 = .ok (.iconst 0, 1) := dk_3 (dk_at dksX14_item_7 18 rfl rfl)
theorem dX14_item_219 : decode cX14_item 219 = .ok (.iconst 2, 1) := dk_5 (dk_at dksX14_item_7 19 rfl rfl)
theorem dX14_item_220 : decode cX14_item 220 = .ok (.invokevirtual 81, 3) := dk_182 0 81 (dk_at dksX14_item_7 20 rfl rfl)
theorem dX14_item_223 : decode cX14_item 223 = .ok (.istore_n 3, 1) := dk_62 (dk_at dksX14_item_7 23 rfl rfl)
theorem dX14_item_224 : decode cX14_item 224 = .ok (.aload_n 0, 1) := dk_42 (dk_at dksX14_item_8 0 rfl rfl)
theorem dX14_item_225 : decode cX14_item 225 = .ok (.getfield 19, 3) := dk_180 0 19 (dk_at dksX14_item_8 1 rfl rfl)
theorem dX14_item_228 : decode cX14_item 228 = .ok (.getfield 125, 3) := dk_180 0 125 (dk_at dksX14_item_8 4 rfl rfl)
theorem dX14_item_231 : decode cX14_item 231 = .ok (.iload_n 3, 1) := dk_29 (dk_at dksX14_item_8 7 rfl rfl)
theorem dX14_item_232 : decode cX14_item 232 = .ok (.aload_n 0, 1) := dk_42 (dk_at dksX14_item_8 8 rfl rfl)
theorem dX14_item_233 : decode cX14_item 233 = .ok (.iconst 0, 1) := dk_3 (dk_at dksX14_item_8 9 rfl rfl)
theorem dX14_item_234 : decode cX14_item 234 = .ok (.bipush 10, 2) := dk_16 10 (dk_at dksX14_item_8 10 rfl rfl)
theorem dX14_item_236 : decode cX14_item 236 = .ok (.invokevirtual 81, 3) := dk_182 0 81 (dk_at dksX14_item_8 12 rfl rfl)
theorem dX14_item_239 : decode cX14_item 239 = .ok (.iastore, 1) := dk_79 (dk_at dksX14_item_8 15 rfl rfl)
theorem dX14_item_240 : decode cX14_item 240 = .ok (.goto 57, 3) := dk_167 0 57 (dk_at dksX14_item_8 16 rfl rfl)
theorem dX14_item_243 : decode cX14_item 243 = .ok (.aload_n 0, 1) := dk_42 (dk_at dksX14_item_8 19 rfl rfl)
theorem dX14_item_244 : decode cX14_item 244 = .ok (.invokevirtual 127, 3) := dk_182 0 127 (dk_at dksX14_item_8 20 rfl rfl)
theorem dX14_item_247 : decode cX14_item 247 = .ok (.goto 50, 3) := dk_167 0 50 (dk_at dksX14_item_9 0 rfl rfl)
theorem dX14_item_250 : decode cX14_item 250 = .ok (.aload_n 0, 1) := dk_42 (dk_at dksX14_item_9 3 rfl rfl)
theorem dX14_item_251 : decode cX14_item 251 = .ok (.invokevirtual 70, 3) := dk_182 0 70 (dk_at dksX14_item_9 4 rfl rfl)
theorem dX14_item_254 : decode cX14_item 254 = .ok (.aload_n 0, 1) := dk_42 (dk_at dksX14_item_9 7 rfl rfl)
theorem dX14_item_255 : decode cX14_item 255 = .ok (.getfield 19, 3) := dk_180 0 19 (dk_at dksX14_item_9 8 rfl rfl)
theorem dX14_item_258 : decode cX14_item 258 = .ok (.aload_n 0, 1) := dk_42 (dk_at dksX14_item_9 11 rfl rfl)
theorem dX14_item_259 : decode cX14_item 259 = .ok (.iconst 0, 1) := dk_3 (dk_at dksX14_item_9 12 rfl rfl)
theorem dX14_item_260 : decode cX14_item 260 = .ok (.bipush 10, 2) := dk_16 10 (dk_at dksX14_item_9 13 rfl rfl)
theorem dX14_item_262 : decode cX14_item 262 = .ok (.invokevirtual 81, 3) := dk_182 0 81 (dk_at dksX14_item_9 15 rfl rfl)
theorem dX14_item_265 : decode cX14_item 265 = .ok (.putfield 129, 3) := dk_181 0 129 (dk_at dksX14_item_9 18 rfl rfl)
theorem dX14_item_268 : decode cX14_item 268 = .ok (.goto 29, 3) := dk_167 0 29 (dk_at dksX14_item_9 21 rfl rfl)
theorem dX14_item_271 : decode cX14_item 271 = .ok (.aload_n 0, 1) := dk_42 (dk_at dksX14_item_10 0 rfl rfl)
theorem dX14_item_272 : decode cX14_item 272 = .ok (.invokevirtual 70, 3) := dk_182 0 70 (dk_at dksX14_item_10 1 rfl rfl)
theorem dX14_item_275 : decode cX14_item 275 = .ok (.aload_n 0, 1) := dk_42 (dk_at dksX14_item_10 4 rfl rfl)
theorem dX14_item_276 : decode cX14_item 276 = .ok (.getfield 19, 3) := dk_180 0 19 (dk_at dksX14_item_10 5 rfl rfl)
theorem dX14_item_279 : decode cX14_item 279 = .ok (.aload_n 0, 1) := dk_42 (dk_at dksX14_item_10 8 rfl rfl)
theorem dX14_item_280 : decode cX14_item 280 = .ok (.iconst 0, 1) := dk_3 (dk_at dksX14_item_10 9 rfl rfl)
theorem dX14_item_281 : decode cX14_item 281 = .ok (.bipush 99, 2) := dk_16 99 (dk_at dksX14_item_10 10 rfl rfl)
theorem dX14_item_283 : decode cX14_item 283 = .ok (.invokevirtual 81, 3) := dk_182 0 81 (dk_at dksX14_item_10 12 rfl rfl)
theorem dX14_item_286 : decode cX14_item 286 = .ok (.putfield 131, 3) := dk_181 0 131 (dk_at dksX14_item_10 15 rfl rfl)
theorem dX14_item_289 : decode cX14_item 289 = .ok (.goto 8, 3) := dk_167 0 8 (dk_at dksX14_item_10 18 rfl rfl)
theorem dX14_item_292 : decode cX14_item 292 = .ok (.aload_n 0, 1) := dk_42 (dk_at dksX14_item_10 21 rfl rfl)
theorem dX14_item_293 : decode cX14_item 293 = .ok (.invokevirtual 73, 3) := dk_182 0 73 (dk_at dksX14_item_11 0 rfl rfl)
theorem dX14_item_296 : decode cX14_item 296 = .ok (.athrow, 1) := dk_191 (dk_at dksX14_item_11 3 rfl rfl)
theorem dX14_item_297 : decode cX14_item 297 = .ok (.return_, 1) := dk_177 (dk_at dksX14_item_11 4 rfl rfl)
abbrev cX14_wrong : ByteArray := prog_9_method_4_code
def yX14_wrong : MethodName := ⟨RX14, "wrong", "()LThreeSizes$Fault;"⟩
def dkwX14_wrong_0 : List UInt8 := [187, 0, 59, 89, 42, 180, 0, 30, 183, 0, 61, 176]
abbrev dktX14_wrong_0 : List UInt8 := dkwX14_wrong_0 ++ []
theorem dksX14_wrong_0 : cX14_wrong.data.toList.drop 0 = dktX14_wrong_0 := by decide +kernel
theorem dX14_wrong_0 : decode cX14_wrong 0 = .ok (.new 59, 3) := dk_187 0 59 (dk_at dksX14_wrong_0 0 rfl rfl)
theorem dX14_wrong_3 : decode cX14_wrong 3 = .ok (.dup, 1) := dk_89 (dk_at dksX14_wrong_0 3 rfl rfl)
theorem dX14_wrong_4 : decode cX14_wrong 4 = .ok (.aload_n 0, 1) := dk_42 (dk_at dksX14_wrong_0 4 rfl rfl)
theorem dX14_wrong_5 : decode cX14_wrong 5 = .ok (.getfield 30, 3) := dk_180 0 30 (dk_at dksX14_wrong_0 5 rfl rfl)
theorem dX14_wrong_8 : decode cX14_wrong 8 = .ok (.invokespecial 61, 3) := dk_183 0 61 (dk_at dksX14_wrong_0 8 rfl rfl)
theorem dX14_wrong_11 : decode cX14_wrong 11 = .ok (.areturn, 1) := dk_176 (dk_at dksX14_wrong_0 11 rfl rfl)
abbrev cX14_number : ByteArray := prog_9_method_6_code
def yX14_number : MethodName := ⟨RX14, "number", "(II)I"⟩
def dkwX14_number_1 : List UInt8 := [180, 0, 37, 62, 42, 182, 0, 70, 29, 172]
abbrev dktX14_number_1 : List UInt8 := dkwX14_number_1 ++ []
def dkwX14_number_0 : List UInt8 := [42, 180, 0, 37, 27, 161, 0, 11, 42, 180, 0, 37, 28, 164, 0, 8, 42, 182, 0, 73, 191, 42]
abbrev dktX14_number_0 : List UInt8 := dkwX14_number_0 ++ dktX14_number_1
theorem dksX14_number_0 : cX14_number.data.toList.drop 0 = dktX14_number_0 := by decide +kernel
theorem dksX14_number_1 : cX14_number.data.toList.drop 22 = dktX14_number_1 := dk_seg dksX14_number_0 22 rfl rfl
theorem dX14_number_0 : decode cX14_number 0 = .ok (.aload_n 0, 1) := dk_42 (dk_at dksX14_number_0 0 rfl rfl)
theorem dX14_number_1 : decode cX14_number 1 = .ok (.getfield 37, 3) := dk_180 0 37 (dk_at dksX14_number_0 1 rfl rfl)
theorem dX14_number_4 : decode cX14_number 4 = .ok (.iload_n 1, 1) := dk_27 (dk_at dksX14_number_0 4 rfl rfl)
theorem dX14_number_5 : decode cX14_number 5 = .ok (.if_icmp .lt 11, 3) := dk_161 0 11 (dk_at dksX14_number_0 5 rfl rfl)
theorem dX14_number_8 : decode cX14_number 8 = .ok (.aload_n 0, 1) := dk_42 (dk_at dksX14_number_0 8 rfl rfl)
theorem dX14_number_9 : decode cX14_number 9 = .ok (.getfield 37, 3) := dk_180 0 37 (dk_at dksX14_number_0 9 rfl rfl)
theorem dX14_number_12 : decode cX14_number 12 = .ok (.iload_n 2, 1) := dk_28 (dk_at dksX14_number_0 12 rfl rfl)
theorem dX14_number_13 : decode cX14_number 13 = .ok (.if_icmp .le 8, 3) := dk_164 0 8 (dk_at dksX14_number_0 13 rfl rfl)
theorem dX14_number_16 : decode cX14_number 16 = .ok (.aload_n 0, 1) := dk_42 (dk_at dksX14_number_0 16 rfl rfl)
theorem dX14_number_17 : decode cX14_number 17 = .ok (.invokevirtual 73, 3) := dk_182 0 73 (dk_at dksX14_number_0 17 rfl rfl)
theorem dX14_number_20 : decode cX14_number 20 = .ok (.athrow, 1) := dk_191 (dk_at dksX14_number_0 20 rfl rfl)
theorem dX14_number_21 : decode cX14_number 21 = .ok (.aload_n 0, 1) := dk_42 (dk_at dksX14_number_0 21 rfl rfl)
theorem dX14_number_22 : decode cX14_number 22 = .ok (.getfield 37, 3) := dk_180 0 37 (dk_at dksX14_number_1 0 rfl rfl)
theorem dX14_number_25 : decode cX14_number 25 = .ok (.istore_n 3, 1) := dk_62 (dk_at dksX14_number_1 3 rfl rfl)
theorem dX14_number_26 : decode cX14_number 26 = .ok (.aload_n 0, 1) := dk_42 (dk_at dksX14_number_1 4 rfl rfl)
theorem dX14_number_27 : decode cX14_number 27 = .ok (.invokevirtual 70, 3) := dk_182 0 70 (dk_at dksX14_number_1 5 rfl rfl)
theorem dX14_number_30 : decode cX14_number 30 = .ok (.iload_n 3, 1) := dk_29 (dk_at dksX14_number_1 8 rfl rfl)
theorem dX14_number_31 : decode cX14_number 31 = .ok (.ireturn, 1) := dk_172 (dk_at dksX14_number_1 9 rfl rfl)
abbrev cX14_sort : ByteArray := prog_9_method_8_code
def yX14_sort : MethodName := ⟨RX14, "sort", "()V"⟩
def dkwX14_sort_3 : List UInt8 := [180, 0, 19, 27, 28, 29, 42, 18, 100, 3, 16, 99, 8, 182, 0, 96, 182, 0, 102, 177]
abbrev dktX14_sort_3 : List UInt8 := dkwX14_sort_3 ++ []
def dkwX14_sort_2 : List UInt8 := [180, 0, 19, 182, 0, 90, 100, 182, 0, 81, 61, 42, 18, 94, 4, 16, 99, 16, 10, 182, 0, 96, 62, 42]
abbrev dktX14_sort_2 : List UInt8 := dkwX14_sort_2 ++ dktX14_sort_3
def dkwX14_sort_1 : List UInt8 := [182, 0, 81, 60, 42, 18, 88, 182, 0, 77, 154, 0, 8, 42, 182, 0, 73, 191, 42, 3, 16, 100, 42]
abbrev dktX14_sort_1 : List UInt8 := dkwX14_sort_1 ++ dktX14_sort_2
def dkwX14_sort_0 : List UInt8 := [42, 180, 0, 19, 180, 0, 83, 16, 6, 160, 0, 8, 42, 182, 0, 73, 191, 42, 182, 0, 70, 42, 3, 5]
abbrev dktX14_sort_0 : List UInt8 := dkwX14_sort_0 ++ dktX14_sort_1
theorem dksX14_sort_0 : cX14_sort.data.toList.drop 0 = dktX14_sort_0 := by decide +kernel
theorem dksX14_sort_1 : cX14_sort.data.toList.drop 24 = dktX14_sort_1 := dk_seg dksX14_sort_0 24 rfl rfl
theorem dksX14_sort_2 : cX14_sort.data.toList.drop 47 = dktX14_sort_2 := dk_seg dksX14_sort_1 23 rfl rfl
theorem dksX14_sort_3 : cX14_sort.data.toList.drop 71 = dktX14_sort_3 := dk_seg dksX14_sort_2 24 rfl rfl
theorem dX14_sort_0 : decode cX14_sort 0 = .ok (.aload_n 0, 1) := dk_42 (dk_at dksX14_sort_0 0 rfl rfl)
theorem dX14_sort_1 : decode cX14_sort 1 = .ok (.getfield 19, 3) := dk_180 0 19 (dk_at dksX14_sort_0 1 rfl rfl)
theorem dX14_sort_4 : decode cX14_sort 4 = .ok (.getfield 83, 3) := dk_180 0 83 (dk_at dksX14_sort_0 4 rfl rfl)
theorem dX14_sort_7 : decode cX14_sort 7 = .ok (.bipush 6, 2) := dk_16 6 (dk_at dksX14_sort_0 7 rfl rfl)
theorem dX14_sort_9 : decode cX14_sort 9 = .ok (.if_icmp .ne 8, 3) := dk_160 0 8 (dk_at dksX14_sort_0 9 rfl rfl)
theorem dX14_sort_12 : decode cX14_sort 12 = .ok (.aload_n 0, 1) := dk_42 (dk_at dksX14_sort_0 12 rfl rfl)
theorem dX14_sort_13 : decode cX14_sort 13 = .ok (.invokevirtual 73, 3) := dk_182 0 73 (dk_at dksX14_sort_0 13 rfl rfl)
theorem dX14_sort_16 : decode cX14_sort 16 = .ok (.athrow, 1) := dk_191 (dk_at dksX14_sort_0 16 rfl rfl)
theorem dX14_sort_17 : decode cX14_sort 17 = .ok (.aload_n 0, 1) := dk_42 (dk_at dksX14_sort_0 17 rfl rfl)
theorem dX14_sort_18 : decode cX14_sort 18 = .ok (.invokevirtual 70, 3) := dk_182 0 70 (dk_at dksX14_sort_0 18 rfl rfl)
theorem dX14_sort_21 : decode cX14_sort 21 = .ok (.aload_n 0, 1) := dk_42 (dk_at dksX14_sort_0 21 rfl rfl)
theorem dX14_sort_22 : decode cX14_sort 22 = .ok (.iconst 0, 1) := dk_3 (dk_at dksX14_sort_0 22 rfl rfl)
theorem dX14_sort_23 : decode cX14_sort 23 = .ok (.iconst 2, 1) := dk_5 (dk_at dksX14_sort_0 23 rfl rfl)
theorem dX14_sort_24 : decode cX14_sort 24 = .ok (.invokevirtual 81, 3) := dk_182 0 81 (dk_at dksX14_sort_1 0 rfl rfl)
theorem dX14_sort_27 : decode cX14_sort 27 = .ok (.istore_n 1, 1) := dk_60 (dk_at dksX14_sort_1 3 rfl rfl)
theorem dX14_sort_28 : decode cX14_sort 28 = .ok (.aload_n 0, 1) := dk_42 (dk_at dksX14_sort_1 4 rfl rfl)
theorem dX14_sort_29 : decode cX14_sort 29 = .ok (.ldc 88, 2) := dk_18 88 (dk_at dksX14_sort_1 5 rfl rfl)
theorem dX14_sort_31 : decode cX14_sort 31 = .ok (.invokevirtual 77, 3) := dk_182 0 77 (dk_at dksX14_sort_1 7 rfl rfl)
theorem dX14_sort_34 : decode cX14_sort 34 = .ok (.ifCond .ne 8, 3) := dk_154 0 8 (dk_at dksX14_sort_1 10 rfl rfl)
theorem dX14_sort_37 : decode cX14_sort 37 = .ok (.aload_n 0, 1) := dk_42 (dk_at dksX14_sort_1 13 rfl rfl)
theorem dX14_sort_38 : decode cX14_sort 38 = .ok (.invokevirtual 73, 3) := dk_182 0 73 (dk_at dksX14_sort_1 14 rfl rfl)
theorem dX14_sort_41 : decode cX14_sort 41 = .ok (.athrow, 1) := dk_191 (dk_at dksX14_sort_1 17 rfl rfl)
theorem dX14_sort_42 : decode cX14_sort 42 = .ok (.aload_n 0, 1) := dk_42 (dk_at dksX14_sort_1 18 rfl rfl)
theorem dX14_sort_43 : decode cX14_sort 43 = .ok (.iconst 0, 1) := dk_3 (dk_at dksX14_sort_1 19 rfl rfl)
theorem dX14_sort_44 : decode cX14_sort 44 = .ok (.bipush 100, 2) := dk_16 100 (dk_at dksX14_sort_1 20 rfl rfl)
theorem dX14_sort_46 : decode cX14_sort 46 = .ok (.aload_n 0, 1) := dk_42 (dk_at dksX14_sort_1 22 rfl rfl)
theorem dX14_sort_47 : decode cX14_sort 47 = .ok (.getfield 19, 3) := dk_180 0 19 (dk_at dksX14_sort_2 0 rfl rfl)
theorem dX14_sort_50 : decode cX14_sort 50 = .ok (.invokevirtual 90, 3) := dk_182 0 90 (dk_at dksX14_sort_2 3 rfl rfl)
theorem dX14_sort_53 : decode cX14_sort 53 = .ok (.isub, 1) := dk_100 (dk_at dksX14_sort_2 6 rfl rfl)
theorem dX14_sort_54 : decode cX14_sort 54 = .ok (.invokevirtual 81, 3) := dk_182 0 81 (dk_at dksX14_sort_2 7 rfl rfl)
theorem dX14_sort_57 : decode cX14_sort 57 = .ok (.istore_n 2, 1) := dk_61 (dk_at dksX14_sort_2 10 rfl rfl)
theorem dX14_sort_58 : decode cX14_sort 58 = .ok (.aload_n 0, 1) := dk_42 (dk_at dksX14_sort_2 11 rfl rfl)
theorem dX14_sort_59 : decode cX14_sort 59 = .ok (.ldc 94, 2) := dk_18 94 (dk_at dksX14_sort_2 12 rfl rfl)
theorem dX14_sort_61 : decode cX14_sort 61 = .ok (.iconst 1, 1) := dk_4 (dk_at dksX14_sort_2 14 rfl rfl)
theorem dX14_sort_62 : decode cX14_sort 62 = .ok (.bipush 99, 2) := dk_16 99 (dk_at dksX14_sort_2 15 rfl rfl)
theorem dX14_sort_64 : decode cX14_sort 64 = .ok (.bipush 10, 2) := dk_16 10 (dk_at dksX14_sort_2 17 rfl rfl)
theorem dX14_sort_66 : decode cX14_sort 66 = .ok (.invokevirtual 96, 3) := dk_182 0 96 (dk_at dksX14_sort_2 19 rfl rfl)
theorem dX14_sort_69 : decode cX14_sort 69 = .ok (.istore_n 3, 1) := dk_62 (dk_at dksX14_sort_2 22 rfl rfl)
theorem dX14_sort_70 : decode cX14_sort 70 = .ok (.aload_n 0, 1) := dk_42 (dk_at dksX14_sort_2 23 rfl rfl)
theorem dX14_sort_71 : decode cX14_sort 71 = .ok (.getfield 19, 3) := dk_180 0 19 (dk_at dksX14_sort_3 0 rfl rfl)
theorem dX14_sort_74 : decode cX14_sort 74 = .ok (.iload_n 1, 1) := dk_27 (dk_at dksX14_sort_3 3 rfl rfl)
theorem dX14_sort_75 : decode cX14_sort 75 = .ok (.iload_n 2, 1) := dk_28 (dk_at dksX14_sort_3 4 rfl rfl)
theorem dX14_sort_76 : decode cX14_sort 76 = .ok (.iload_n 3, 1) := dk_29 (dk_at dksX14_sort_3 5 rfl rfl)
theorem dX14_sort_77 : decode cX14_sort 77 = .ok (.aload_n 0, 1) := dk_42 (dk_at dksX14_sort_3 6 rfl rfl)
theorem dX14_sort_78 : decode cX14_sort 78 = .ok (.ldc 100, 2) := dk_18 100 (dk_at dksX14_sort_3 7 rfl rfl)
theorem dX14_sort_80 : decode cX14_sort 80 = .ok (.iconst 0, 1) := dk_3 (dk_at dksX14_sort_3 9 rfl rfl)
theorem dX14_sort_81 : decode cX14_sort 81 = .ok (.bipush 99, 2) := dk_16 99 (dk_at dksX14_sort_3 10 rfl rfl)
theorem dX14_sort_83 : decode cX14_sort 83 = .ok (.iconst 5, 1) := dk_8 (dk_at dksX14_sort_3 12 rfl rfl)
theorem dX14_sort_84 : decode cX14_sort 84 = .ok (.invokevirtual 96, 3) := dk_182 0 96 (dk_at dksX14_sort_3 13 rfl rfl)
theorem dX14_sort_87 : decode cX14_sort 87 = .ok (.invokevirtual 102, 3) := dk_182 0 102 (dk_at dksX14_sort_3 16 rfl rfl)
theorem dX14_sort_90 : decode cX14_sort 90 = .ok (.return_, 1) := dk_177 (dk_at dksX14_sort_3 19 rfl rfl)
abbrev cX14_takes : ByteArray := prog_9_method_5_code
def yX14_takes : MethodName := ⟨RX14, "takes", "(Ljava/lang/String;)Z"⟩
def dkwX14_takes_1 : List UInt8 := [4, 172]
abbrev dktX14_takes_1 : List UInt8 := dkwX14_takes_1 ++ []
def dkwX14_takes_0 : List UInt8 := [42, 180, 0, 33, 198, 0, 14, 42, 180, 0, 33, 43, 182, 0, 64, 154, 0, 5, 3, 172, 42, 182, 0, 70]
abbrev dktX14_takes_0 : List UInt8 := dkwX14_takes_0 ++ dktX14_takes_1
theorem dksX14_takes_0 : cX14_takes.data.toList.drop 0 = dktX14_takes_0 := by decide +kernel
theorem dksX14_takes_1 : cX14_takes.data.toList.drop 24 = dktX14_takes_1 := dk_seg dksX14_takes_0 24 rfl rfl
theorem dX14_takes_0 : decode cX14_takes 0 = .ok (.aload_n 0, 1) := dk_42 (dk_at dksX14_takes_0 0 rfl rfl)
theorem dX14_takes_1 : decode cX14_takes 1 = .ok (.getfield 33, 3) := dk_180 0 33 (dk_at dksX14_takes_0 1 rfl rfl)
theorem dX14_takes_4 : decode cX14_takes 4 = .ok (.ifnull 14, 3) := dk_198 0 14 (dk_at dksX14_takes_0 4 rfl rfl)
theorem dX14_takes_7 : decode cX14_takes 7 = .ok (.aload_n 0, 1) := dk_42 (dk_at dksX14_takes_0 7 rfl rfl)
theorem dX14_takes_8 : decode cX14_takes 8 = .ok (.getfield 33, 3) := dk_180 0 33 (dk_at dksX14_takes_0 8 rfl rfl)
theorem dX14_takes_11 : decode cX14_takes 11 = .ok (.aload_n 1, 1) := dk_43 (dk_at dksX14_takes_0 11 rfl rfl)
theorem dX14_takes_12 : decode cX14_takes 12 = .ok (.invokevirtual 64, 3) := dk_182 0 64 (dk_at dksX14_takes_0 12 rfl rfl)
theorem dX14_takes_15 : decode cX14_takes 15 = .ok (.ifCond .ne 5, 3) := dk_154 0 5 (dk_at dksX14_takes_0 15 rfl rfl)
theorem dX14_takes_18 : decode cX14_takes 18 = .ok (.iconst 0, 1) := dk_3 (dk_at dksX14_takes_0 18 rfl rfl)
theorem dX14_takes_19 : decode cX14_takes 19 = .ok (.ireturn, 1) := dk_172 (dk_at dksX14_takes_0 19 rfl rfl)
theorem dX14_takes_20 : decode cX14_takes 20 = .ok (.aload_n 0, 1) := dk_42 (dk_at dksX14_takes_0 20 rfl rfl)
theorem dX14_takes_21 : decode cX14_takes 21 = .ok (.invokevirtual 70, 3) := dk_182 0 70 (dk_at dksX14_takes_0 21 rfl rfl)
theorem dX14_takes_24 : decode cX14_takes 24 = .ok (.iconst 1, 1) := dk_4 (dk_at dksX14_takes_1 0 rfl rfl)
theorem dX14_takes_25 : decode cX14_takes 25 = .ok (.ireturn, 1) := dk_172 (dk_at dksX14_takes_1 1 rfl rfl)
abbrev cX14_perhaps : ByteArray := prog_9_method_7_code
def yX14_perhaps : MethodName := ⟨RX14, "perhaps", "(Ljava/lang/String;III)I"⟩
def dkwX14_perhaps_0 : List UInt8 := [42, 43, 182, 0, 77, 153, 0, 12, 42, 28, 29, 182, 0, 81, 167, 0, 5, 21, 4, 172]
abbrev dktX14_perhaps_0 : List UInt8 := dkwX14_perhaps_0 ++ []
theorem dksX14_perhaps_0 : cX14_perhaps.data.toList.drop 0 = dktX14_perhaps_0 := by decide +kernel
theorem dX14_perhaps_0 : decode cX14_perhaps 0 = .ok (.aload_n 0, 1) := dk_42 (dk_at dksX14_perhaps_0 0 rfl rfl)
theorem dX14_perhaps_1 : decode cX14_perhaps 1 = .ok (.aload_n 1, 1) := dk_43 (dk_at dksX14_perhaps_0 1 rfl rfl)
theorem dX14_perhaps_2 : decode cX14_perhaps 2 = .ok (.invokevirtual 77, 3) := dk_182 0 77 (dk_at dksX14_perhaps_0 2 rfl rfl)
theorem dX14_perhaps_5 : decode cX14_perhaps 5 = .ok (.ifCond .eq 12, 3) := dk_153 0 12 (dk_at dksX14_perhaps_0 5 rfl rfl)
theorem dX14_perhaps_8 : decode cX14_perhaps 8 = .ok (.aload_n 0, 1) := dk_42 (dk_at dksX14_perhaps_0 8 rfl rfl)
theorem dX14_perhaps_9 : decode cX14_perhaps 9 = .ok (.iload_n 2, 1) := dk_28 (dk_at dksX14_perhaps_0 9 rfl rfl)
theorem dX14_perhaps_10 : decode cX14_perhaps 10 = .ok (.iload_n 3, 1) := dk_29 (dk_at dksX14_perhaps_0 10 rfl rfl)
theorem dX14_perhaps_11 : decode cX14_perhaps 11 = .ok (.invokevirtual 81, 3) := dk_182 0 81 (dk_at dksX14_perhaps_0 11 rfl rfl)
theorem dX14_perhaps_14 : decode cX14_perhaps 14 = .ok (.goto 5, 3) := dk_167 0 5 (dk_at dksX14_perhaps_0 14 rfl rfl)
theorem dX14_perhaps_17 : decode cX14_perhaps 17 = .ok (.iload 4, 2) := dk_21 4 (dk_at dksX14_perhaps_0 17 rfl rfl)
theorem dX14_perhaps_19 : decode cX14_perhaps 19 = .ok (.ireturn, 1) := dk_172 (dk_at dksX14_perhaps_0 19 rfl rfl)
theorem q93 : (Jvm.Cond.initialized "ThreeSizes$Reader") ∈ lw_all := lw_g (lw_at lw_m1 28 rfl) rfl
theorem q124 : (Jvm.Cond.fieldLink "ThreeSizes$Reader" (119 : Nat) "ThreeSizes$Wall" "boxes" "[I") ∈ lw_all := lw_g (lw_at lw_m1 59 rfl) rfl
theorem q128 : (Jvm.Cond.fieldLink "ThreeSizes$Reader" (122 : Nat) "ThreeSizes$Wall" "full" "[I") ∈ lw_all := lw_g (lw_at lw_m1 63 rfl) rfl
theorem q133 : (Jvm.Cond.fieldLink "ThreeSizes$Reader" (125 : Nat) "ThreeSizes$Wall" "goes" "[I") ∈ lw_all := lw_g (lw_at lw_m1 68 rfl) rfl
theorem q155 : (Jvm.Cond.fieldLink "ThreeSizes$Reader" (83 : Nat) "ThreeSizes$Wall" "sorts" "I") ∈ lw_all := lw_g (lw_at lw_m1 90 rfl) rfl
theorem q159 : (Jvm.Cond.fieldLink "ThreeSizes$Reader" (129 : Nat) "ThreeSizes$Wall" "near" "I") ∈ lw_all := lw_g (lw_at lw_m1 94 rfl) rfl
theorem q163 : (Jvm.Cond.fieldLink "ThreeSizes$Reader" (131 : Nat) "ThreeSizes$Wall" "way" "I") ∈ lw_all := lw_g (lw_at lw_m1 98 rfl) rfl
theorem q820 : (Jvm.Cond.instantiable "ThreeSizes$Reader" (7 : Nat)) ∈ lw_all := lw_g (lw_at lw_m4 35 rfl) rfl
theorem q829 : (Jvm.Cond.instanceMethod ({ cls := "ThreeSizes$Reader", name := "<init>", desc := "([IILThreeSizes$Wall;)V" } : Jvm.MethodName)) ∈ lw_all := lw_g (lw_at lw_m4 44 rfl) rfl
theorem q830 : (Jvm.Cond.code ({ cls := "ThreeSizes$Reader", name := "<init>", desc := "([IILThreeSizes$Wall;)V" } : Jvm.MethodName) prog_9_method_1_code (4 : Nat) (Option.none : Option Jvm.ClassFile.FieldType)) ∈ lw_all := lw_g (lw_at lw_m4 45 rfl) rfl
theorem q831 : (Jvm.Cond.methodLink "ThreeSizes$Reader" (3 : Nat) ({ cls := "java/lang/Object", name := "<init>", desc := "()V" } : Jvm.MethodName)) ∈ lw_all := lw_g (lw_at lw_m4 46 rfl) rfl
theorem q832 : (Jvm.Cond.fieldLink "ThreeSizes$Reader" (9 : Nat) "ThreeSizes$Reader" "tape" "[I") ∈ lw_all := lw_g (lw_at lw_m4 47 rfl) rfl
theorem q833 : (Jvm.Cond.fieldLink "ThreeSizes$Reader" (15 : Nat) "ThreeSizes$Reader" "size" "I") ∈ lw_all := lw_g (lw_at lw_m4 48 rfl) rfl
theorem q834 : (Jvm.Cond.fieldLink "ThreeSizes$Reader" (19 : Nat) "ThreeSizes$Reader" "wall" "LThreeSizes$Wall;") ∈ lw_all := lw_g (lw_at lw_m4 49 rfl) rfl
theorem q836 : (Jvm.Cond.fieldLink "ThreeSizes$Reader" (23 : Nat) "ThreeSizes$Reader" "at" "I") ∈ lw_all := lw_g (lw_at lw_m4 51 rfl) rfl
theorem q837 : (Jvm.Cond.fieldLink "ThreeSizes$Reader" (30 : Nat) "ThreeSizes$Reader" "from" "I") ∈ lw_all := lw_g (lw_at lw_m4 52 rfl) rfl
theorem q838 : (Jvm.Cond.fieldLink "ThreeSizes$Reader" (33 : Nat) "ThreeSizes$Reader" "word" "Ljava/lang/String;") ∈ lw_all := lw_g (lw_at lw_m4 53 rfl) rfl
theorem q839 : (Jvm.Cond.fieldLink "ThreeSizes$Reader" (37 : Nat) "ThreeSizes$Reader" "number" "I") ∈ lw_all := lw_g (lw_at lw_m4 54 rfl) rfl
theorem q840 : (Jvm.Cond.laysFinal "ThreeSizes$Reader" "ThreeSizes$Reader" "tape" "[I") ∈ lw_all := lw_g (lw_at lw_m4 55 rfl) rfl
theorem q841 : (Jvm.Cond.soleField "ThreeSizes$Reader" "tape") ∈ lw_all := lw_g (lw_at lw_m4 56 rfl) rfl
theorem q842 : (Jvm.Cond.laysFinal "ThreeSizes$Reader" "ThreeSizes$Reader" "size" "I") ∈ lw_all := lw_g (lw_at lw_m4 57 rfl) rfl
theorem q843 : (Jvm.Cond.soleField "ThreeSizes$Reader" "size") ∈ lw_all := lw_g (lw_at lw_m4 58 rfl) rfl
theorem q844 : (Jvm.Cond.laysFinal "ThreeSizes$Reader" "ThreeSizes$Reader" "wall" "LThreeSizes$Wall;") ∈ lw_all := lw_g (lw_at lw_m4 59 rfl) rfl
theorem q845 : (Jvm.Cond.soleField "ThreeSizes$Reader" "wall") ∈ lw_all := lw_g (lw_at lw_m4 60 rfl) rfl
theorem q846 : (Jvm.Cond.lays "ThreeSizes$Reader" "ThreeSizes$Reader" "at" "I") ∈ lw_all := lw_g (lw_at lw_m4 61 rfl) rfl
theorem q847 : (Jvm.Cond.soleField "ThreeSizes$Reader" "at") ∈ lw_all := lw_g (lw_at lw_m4 62 rfl) rfl
theorem q848 : (Jvm.Cond.lays "ThreeSizes$Reader" "ThreeSizes$Reader" "from" "I") ∈ lw_all := lw_g (lw_at lw_m4 63 rfl) rfl
theorem q849 : (Jvm.Cond.soleField "ThreeSizes$Reader" "from") ∈ lw_all := lw_g (lw_at lw_m4 64 rfl) rfl
theorem q850 : (Jvm.Cond.lays "ThreeSizes$Reader" "ThreeSizes$Reader" "word" "Ljava/lang/String;") ∈ lw_all := lw_g (lw_at lw_m4 65 rfl) rfl
theorem q851 : (Jvm.Cond.soleField "ThreeSizes$Reader" "word") ∈ lw_all := lw_g (lw_at lw_m4 66 rfl) rfl
theorem q852 : (Jvm.Cond.lays "ThreeSizes$Reader" "ThreeSizes$Reader" "number" "I") ∈ lw_all := lw_g (lw_at lw_m4 67 rfl) rfl
theorem q853 : (Jvm.Cond.soleField "ThreeSizes$Reader" "number") ∈ lw_all := lw_g (lw_at lw_m4 68 rfl) rfl
theorem q854 : (Jvm.Cond.superclass "ThreeSizes$Reader" "java/lang/Object") ∈ lw_all := lw_g (lw_at lw_m4 69 rfl) rfl
theorem q856 : (Jvm.Cond.instanceMethod ({ cls := "ThreeSizes$Reader", name := "read", desc := "()I" } : Jvm.MethodName)) ∈ lw_all := lw_g (lw_at lw_m4 71 rfl) rfl
theorem q857 : (Jvm.Cond.selects "ThreeSizes$Reader" ({ cls := "ThreeSizes$Reader", name := "read", desc := "()I" } : Jvm.MethodName) ({ cls := "ThreeSizes$Reader", name := "read", desc := "()I" } : Jvm.MethodName)) ∈ lw_all := lw_g (lw_at lw_m4 72 rfl) rfl
theorem q858 : (Jvm.Cond.code ({ cls := "ThreeSizes$Reader", name := "read", desc := "()I" } : Jvm.MethodName) prog_9_method_10_code (2 : Nat) (Option.some Jvm.ClassFile.FieldType.int)) ∈ lw_all := lw_g (lw_at lw_m4 73 rfl) rfl
theorem q859 : (Jvm.Cond.methodLink "ThreeSizes$Reader" (70 : Nat) ({ cls := "ThreeSizes$Reader", name := "next", desc := "()V" } : Jvm.MethodName)) ∈ lw_all := lw_g (lw_at lw_m4 74 rfl) rfl
theorem q860 : (Jvm.Cond.privateMethod ({ cls := "ThreeSizes$Reader", name := "next", desc := "()V" } : Jvm.MethodName)) ∈ lw_tbl := lw_at lw_m4 75 rfl
theorem q861 : (Jvm.Cond.instanceMethod ({ cls := "ThreeSizes$Reader", name := "next", desc := "()V" } : Jvm.MethodName)) ∈ lw_all := lw_g (lw_at lw_m4 76 rfl) rfl
theorem q862 : (Jvm.Cond.code ({ cls := "ThreeSizes$Reader", name := "next", desc := "()V" } : Jvm.MethodName) prog_9_method_3_code (2 : Nat) (Option.none : Option Jvm.ClassFile.FieldType)) ∈ lw_all := lw_g (lw_at lw_m4 77 rfl) rfl
theorem q863 : (Jvm.Cond.methodLink "ThreeSizes$Reader" (26 : Nat) ({ cls := "ThreeSizes$Reader", name := "isIn", desc := "(II)Z" } : Jvm.MethodName)) ∈ lw_all := lw_g (lw_at lw_m4 78 rfl) rfl
theorem q864 : (Jvm.Cond.privateMethod ({ cls := "ThreeSizes$Reader", name := "isIn", desc := "(II)Z" } : Jvm.MethodName)) ∈ lw_tbl := lw_at lw_m4 79 rfl
theorem q865 : (Jvm.Cond.instanceMethod ({ cls := "ThreeSizes$Reader", name := "isIn", desc := "(II)Z" } : Jvm.MethodName)) ∈ lw_all := lw_g (lw_at lw_m4 80 rfl) rfl
theorem q866 : (Jvm.Cond.code ({ cls := "ThreeSizes$Reader", name := "isIn", desc := "(II)Z" } : Jvm.MethodName) prog_9_method_2_code (3 : Nat) (Option.some Jvm.ClassFile.FieldType.boolean)) ∈ lw_all := lw_g (lw_at lw_m4 81 rfl) rfl
theorem q867 : (Jvm.Cond.classLink "ThreeSizes$Reader" (40 : Nat) "java/lang/StringBuilder") ∈ lw_all := lw_g (lw_at lw_m4 82 rfl) rfl
theorem q869 : (Jvm.Cond.methodLink "ThreeSizes$Reader" (42 : Nat) ({ cls := "java/lang/StringBuilder", name := "<init>", desc := "()V" } : Jvm.MethodName)) ∈ lw_all := lw_g (lw_at lw_m4 84 rfl) rfl
theorem q903 : (Jvm.Cond.methodLink "ThreeSizes$Reader" (43 : Nat) ({ cls := "java/lang/StringBuilder", name := "append", desc := "(C)Ljava/lang/StringBuilder;" } : Jvm.MethodName)) ∈ lw_all := lw_g (lw_at lw_m4 118 rfl) rfl
theorem q994 : (Jvm.Cond.methodLink "ThreeSizes$Reader" (47 : Nat) ({ cls := "java/lang/StringBuilder", name := "toString", desc := "()Ljava/lang/String;" } : Jvm.MethodName)) ∈ lw_all := lw_g (lw_at lw_m4 209 rfl) rfl
theorem q1052 : (Jvm.Cond.methodLink "ThreeSizes$Reader" (51 : Nat) ({ cls := "java/lang/Math", name := "min", desc := "(II)I" } : Jvm.MethodName)) ∈ lw_all := lw_g (lw_at lw_m5 27 rfl) rfl
theorem q1053 : (Jvm.Cond.stringRef "ThreeSizes$Reader" (57 : Nat) ";") ∈ lw_tbl := lw_at lw_m5 28 rfl
theorem q1054 : (Jvm.Cond.methodLink "ThreeSizes$Reader" (133 : Nat) ({ cls := "ThreeSizes$Reader", name := "item", desc := "()V" } : Jvm.MethodName)) ∈ lw_all := lw_g (lw_at lw_m5 29 rfl) rfl
theorem q1055 : (Jvm.Cond.privateMethod ({ cls := "ThreeSizes$Reader", name := "item", desc := "()V" } : Jvm.MethodName)) ∈ lw_tbl := lw_at lw_m5 30 rfl
theorem q1056 : (Jvm.Cond.instanceMethod ({ cls := "ThreeSizes$Reader", name := "item", desc := "()V" } : Jvm.MethodName)) ∈ lw_all := lw_g (lw_at lw_m5 31 rfl) rfl
theorem q1057 : (Jvm.Cond.code ({ cls := "ThreeSizes$Reader", name := "item", desc := "()V" } : Jvm.MethodName) prog_9_method_9_code (4 : Nat) (Option.none : Option Jvm.ClassFile.FieldType)) ∈ lw_all := lw_g (lw_at lw_m5 32 rfl) rfl
theorem q1058 : (Jvm.Cond.methodLink "ThreeSizes$Reader" (73 : Nat) ({ cls := "ThreeSizes$Reader", name := "wrong", desc := "()LThreeSizes$Fault;" } : Jvm.MethodName)) ∈ lw_all := lw_g (lw_at lw_m5 33 rfl) rfl
theorem q1059 : (Jvm.Cond.privateMethod ({ cls := "ThreeSizes$Reader", name := "wrong", desc := "()LThreeSizes$Fault;" } : Jvm.MethodName)) ∈ lw_tbl := lw_at lw_m5 34 rfl
theorem q1060 : (Jvm.Cond.instanceMethod ({ cls := "ThreeSizes$Reader", name := "wrong", desc := "()LThreeSizes$Fault;" } : Jvm.MethodName)) ∈ lw_all := lw_g (lw_at lw_m5 35 rfl) rfl
theorem q1061 : (Jvm.Cond.code ({ cls := "ThreeSizes$Reader", name := "wrong", desc := "()LThreeSizes$Fault;" } : Jvm.MethodName) prog_9_method_4_code (1 : Nat) (Option.some (Jvm.ClassFile.FieldType.object "ThreeSizes$Fault"))) ∈ lw_all := lw_g (lw_at lw_m5 36 rfl) rfl
theorem q1062 : (Jvm.Cond.classLink "ThreeSizes$Reader" (59 : Nat) "ThreeSizes$Fault") ∈ lw_all := lw_g (lw_at lw_m5 37 rfl) rfl
theorem q1071 : (Jvm.Cond.methodLink "ThreeSizes$Reader" (61 : Nat) ({ cls := "ThreeSizes$Fault", name := "<init>", desc := "(I)V" } : Jvm.MethodName)) ∈ lw_all := lw_g (lw_at lw_m5 46 rfl) rfl
theorem q1081 : (Jvm.Cond.methodLink "ThreeSizes$Reader" (106 : Nat) ({ cls := "java/lang/String", name := "hashCode", desc := "()I" } : Jvm.MethodName)) ∈ lw_all := lw_g (lw_at lw_m5 56 rfl) rfl
theorem q1134 : (Jvm.Cond.stringRef "ThreeSizes$Reader" (109 : Nat) "box") ∈ lw_tbl := lw_at lw_m5 109 rfl
theorem q1135 : (Jvm.Cond.methodLink "ThreeSizes$Reader" (64 : Nat) ({ cls := "java/lang/String", name := "equals", desc := "(Ljava/lang/Object;)Z" } : Jvm.MethodName)) ∈ lw_all := lw_g (lw_at lw_m5 110 rfl) rfl
theorem q1143 : (Jvm.Cond.stringRef "ThreeSizes$Reader" (111 : Nat) "goes") ∈ lw_tbl := lw_at lw_m5 118 rfl
theorem q1144 : (Jvm.Cond.stringRef "ThreeSizes$Reader" (113 : Nat) "sort") ∈ lw_tbl := lw_at lw_m5 119 rfl
theorem q1145 : (Jvm.Cond.stringRef "ThreeSizes$Reader" (115 : Nat) "near") ∈ lw_tbl := lw_at lw_m5 120 rfl
theorem q1146 : (Jvm.Cond.stringRef "ThreeSizes$Reader" (117 : Nat) "way") ∈ lw_tbl := lw_at lw_m5 121 rfl
theorem q1147 : (Jvm.Cond.methodLink "ThreeSizes$Reader" (81 : Nat) ({ cls := "ThreeSizes$Reader", name := "number", desc := "(II)I" } : Jvm.MethodName)) ∈ lw_all := lw_g (lw_at lw_m5 122 rfl) rfl
theorem q1148 : (Jvm.Cond.privateMethod ({ cls := "ThreeSizes$Reader", name := "number", desc := "(II)I" } : Jvm.MethodName)) ∈ lw_tbl := lw_at lw_m5 123 rfl
theorem q1149 : (Jvm.Cond.instanceMethod ({ cls := "ThreeSizes$Reader", name := "number", desc := "(II)I" } : Jvm.MethodName)) ∈ lw_all := lw_g (lw_at lw_m5 124 rfl) rfl
theorem q1150 : (Jvm.Cond.code ({ cls := "ThreeSizes$Reader", name := "number", desc := "(II)I" } : Jvm.MethodName) prog_9_method_6_code (4 : Nat) (Option.some Jvm.ClassFile.FieldType.int)) ∈ lw_all := lw_g (lw_at lw_m5 125 rfl) rfl
theorem q1151 : (Jvm.Cond.methodLink "ThreeSizes$Reader" (127 : Nat) ({ cls := "ThreeSizes$Reader", name := "sort", desc := "()V" } : Jvm.MethodName)) ∈ lw_all := lw_g (lw_at lw_m5 126 rfl) rfl
theorem q1152 : (Jvm.Cond.privateMethod ({ cls := "ThreeSizes$Reader", name := "sort", desc := "()V" } : Jvm.MethodName)) ∈ lw_tbl := lw_at lw_m5 127 rfl
theorem q1153 : (Jvm.Cond.instanceMethod ({ cls := "ThreeSizes$Reader", name := "sort", desc := "()V" } : Jvm.MethodName)) ∈ lw_all := lw_g (lw_at lw_m5 128 rfl) rfl
theorem q1154 : (Jvm.Cond.code ({ cls := "ThreeSizes$Reader", name := "sort", desc := "()V" } : Jvm.MethodName) prog_9_method_8_code (4 : Nat) (Option.none : Option Jvm.ClassFile.FieldType)) ∈ lw_all := lw_g (lw_at lw_m5 129 rfl) rfl
theorem q1155 : (Jvm.Cond.stringRef "ThreeSizes$Reader" (88 : Nat) "comes") ∈ lw_tbl := lw_at lw_m5 130 rfl
theorem q1156 : (Jvm.Cond.methodLink "ThreeSizes$Reader" (77 : Nat) ({ cls := "ThreeSizes$Reader", name := "takes", desc := "(Ljava/lang/String;)Z" } : Jvm.MethodName)) ∈ lw_all := lw_g (lw_at lw_m5 131 rfl) rfl
theorem q1157 : (Jvm.Cond.privateMethod ({ cls := "ThreeSizes$Reader", name := "takes", desc := "(Ljava/lang/String;)Z" } : Jvm.MethodName)) ∈ lw_tbl := lw_at lw_m5 132 rfl
theorem q1158 : (Jvm.Cond.instanceMethod ({ cls := "ThreeSizes$Reader", name := "takes", desc := "(Ljava/lang/String;)Z" } : Jvm.MethodName)) ∈ lw_all := lw_g (lw_at lw_m5 133 rfl) rfl
theorem q1159 : (Jvm.Cond.code ({ cls := "ThreeSizes$Reader", name := "takes", desc := "(Ljava/lang/String;)Z" } : Jvm.MethodName) prog_9_method_5_code (2 : Nat) (Option.some Jvm.ClassFile.FieldType.boolean)) ∈ lw_all := lw_g (lw_at lw_m5 134 rfl) rfl
theorem q1160 : (Jvm.Cond.methodLink "ThreeSizes$Reader" (90 : Nat) ({ cls := "ThreeSizes$Wall", name := "all", desc := "()I" } : Jvm.MethodName)) ∈ lw_all := lw_g (lw_at lw_m5 135 rfl) rfl
theorem q1161 : (Jvm.Cond.stringRef "ThreeSizes$Reader" (94 : Nat) "worth") ∈ lw_tbl := lw_at lw_m5 136 rfl
theorem q1162 : (Jvm.Cond.methodLink "ThreeSizes$Reader" (96 : Nat) ({ cls := "ThreeSizes$Reader", name := "perhaps", desc := "(Ljava/lang/String;III)I" } : Jvm.MethodName)) ∈ lw_all := lw_g (lw_at lw_m5 137 rfl) rfl
theorem q1163 : (Jvm.Cond.privateMethod ({ cls := "ThreeSizes$Reader", name := "perhaps", desc := "(Ljava/lang/String;III)I" } : Jvm.MethodName)) ∈ lw_tbl := lw_at lw_m5 138 rfl
theorem q1164 : (Jvm.Cond.instanceMethod ({ cls := "ThreeSizes$Reader", name := "perhaps", desc := "(Ljava/lang/String;III)I" } : Jvm.MethodName)) ∈ lw_all := lw_g (lw_at lw_m5 139 rfl) rfl
theorem q1165 : (Jvm.Cond.code ({ cls := "ThreeSizes$Reader", name := "perhaps", desc := "(Ljava/lang/String;III)I" } : Jvm.MethodName) prog_9_method_7_code (5 : Nat) (Option.some Jvm.ClassFile.FieldType.int)) ∈ lw_all := lw_g (lw_at lw_m5 140 rfl) rfl
theorem q1166 : (Jvm.Cond.stringRef "ThreeSizes$Reader" (100 : Nat) "back") ∈ lw_tbl := lw_at lw_m5 141 rfl
theorem q1167 : (Jvm.Cond.methodLink "ThreeSizes$Reader" (102 : Nat) ({ cls := "ThreeSizes$Wall", name := "adds", desc := "(IIII)V" } : Jvm.MethodName)) ∈ lw_all := lw_g (lw_at lw_m5 142 rfl) rfl
theorem in_X14 : ∀ w ∈ wsX140, w ∈ lw_all := lw_in wsX140 [840, 842, 844, 846, 848, 850, 852] (by decide +kernel) (by decide +kernel)
/-! ThreeSizes$Fault -/
set_option maxRecDepth 100000
def RX15 : String := "ThreeSizes$Fault"
def TX15 : u_T := fun k => match k with
  | 0 => ("java/lang/Throwable", "cause", "Ljava/lang/Throwable;", false)
  | 1 => ("java/lang/Throwable", "stackTrace", "[Ljava/lang/StackTraceElement;", false)
  | 2 => ("java/lang/Throwable", "suppressedExceptions", "Ljava/util/List;", false)
  | 3 => ("java/lang/Throwable", "detailMessage", "Ljava/lang/String;", false)
  | 4 => ("java/lang/Throwable", "backtrace", "Ljava/lang/Object;", false)
  | 5 => ("java/lang/Throwable", "depth", "I", false)
  | _ => ("ThreeSizes$Fault", "place", "I", true)
def tyX15 : Nat → FieldType := fun k => match k with
  | 0 => .object "java/lang/Throwable"
  | 1 => .array (.object "java/lang/StackTraceElement")
  | 2 => .object "java/util/List"
  | 3 => .object "java/lang/String"
  | 4 => .object "java/lang/Object"
  | 5 => .int
  | _ => .int
abbrev wsX150 : List Cond := u_ws RX15 TX15 7
theorem nmX15 : ∀ a, a < 7 → ∀ b, b < 7 → a ≠ b → (TX15 a).2.1 ≠ (TX15 b).2.1 := by decide +kernel
theorem tyX15_ok : ∀ k, k < 7 → parseFieldDescriptor (TX15 k).2.2.1 = some (tyX15 k) := by decide +kernel
abbrev cX15_init : ByteArray := prog_4_method_1_code
def yX15_init : MethodName := ⟨RX15, "<init>", "(I)V"⟩
def dkwX15_init_0 : List UInt8 := [42, 1, 1, 3, 3, 183, 0, 1, 42, 27, 181, 0, 7, 177]
abbrev dktX15_init_0 : List UInt8 := dkwX15_init_0 ++ []
theorem dksX15_init_0 : cX15_init.data.toList.drop 0 = dktX15_init_0 := by decide +kernel
theorem dX15_init_0 : decode cX15_init 0 = .ok (.aload_n 0, 1) := dk_42 (dk_at dksX15_init_0 0 rfl rfl)
theorem dX15_init_1 : decode cX15_init 1 = .ok (.aconst_null, 1) := dk_1 (dk_at dksX15_init_0 1 rfl rfl)
theorem dX15_init_2 : decode cX15_init 2 = .ok (.aconst_null, 1) := dk_1 (dk_at dksX15_init_0 2 rfl rfl)
theorem dX15_init_3 : decode cX15_init 3 = .ok (.iconst 0, 1) := dk_3 (dk_at dksX15_init_0 3 rfl rfl)
theorem dX15_init_4 : decode cX15_init 4 = .ok (.iconst 0, 1) := dk_3 (dk_at dksX15_init_0 4 rfl rfl)
theorem dX15_init_5 : decode cX15_init 5 = .ok (.invokespecial 1, 3) := dk_183 0 1 (dk_at dksX15_init_0 5 rfl rfl)
theorem dX15_init_8 : decode cX15_init 8 = .ok (.aload_n 0, 1) := dk_42 (dk_at dksX15_init_0 8 rfl rfl)
theorem dX15_init_9 : decode cX15_init 9 = .ok (.iload_n 1, 1) := dk_27 (dk_at dksX15_init_0 9 rfl rfl)
theorem dX15_init_10 : decode cX15_init 10 = .ok (.putfield 7, 3) := dk_181 0 7 (dk_at dksX15_init_0 10 rfl rfl)
theorem dX15_init_13 : decode cX15_init 13 = .ok (.return_, 1) := dk_177 (dk_at dksX15_init_0 13 rfl rfl)
theorem q100 : (Jvm.Cond.initialized "ThreeSizes$Fault") ∈ lw_all := lw_g (lw_at lw_m1 35 rfl) rfl
theorem q277 : (Jvm.Cond.selects "ThreeSizes$Fault" ({ cls := "java/lang/Throwable", name := "fillInStackTrace", desc := "()Ljava/lang/Throwable;" } : Jvm.MethodName) ({ cls := "java/lang/Throwable", name := "fillInStackTrace", desc := "()Ljava/lang/Throwable;" } : Jvm.MethodName)) ∈ lw_all := lw_g (lw_at lw_m1 212 rfl) rfl
theorem q1063 : (Jvm.Cond.instantiable "ThreeSizes$Fault" (7 : Nat)) ∈ lw_all := lw_g (lw_at lw_m5 38 rfl) rfl
theorem q1064 : (Jvm.Cond.castable "ThreeSizes$Fault" "ThreeSizes$Fault") ∈ lw_tbl := lw_at lw_m5 39 rfl
theorem q1065 : (Jvm.Cond.selects "ThreeSizes$Fault" ({ cls := "java/lang/Throwable", name := "fillInStackTrace", desc := "(I)Ljava/lang/Throwable;" } : Jvm.MethodName) ({ cls := "java/lang/Throwable", name := "fillInStackTrace", desc := "(I)Ljava/lang/Throwable;" } : Jvm.MethodName)) ∈ lw_all := lw_g (lw_at lw_m5 40 rfl) rfl
theorem q1066 : (Jvm.Cond.lays "ThreeSizes$Fault" "java/lang/Throwable" "cause" "Ljava/lang/Throwable;") ∈ lw_all := lw_g (lw_at lw_m5 41 rfl) rfl
theorem q1067 : (Jvm.Cond.lays "ThreeSizes$Fault" "java/lang/Throwable" "stackTrace" "[Ljava/lang/StackTraceElement;") ∈ lw_all := lw_g (lw_at lw_m5 42 rfl) rfl
theorem q1068 : (Jvm.Cond.lays "ThreeSizes$Fault" "java/lang/Throwable" "suppressedExceptions" "Ljava/util/List;") ∈ lw_all := lw_g (lw_at lw_m5 43 rfl) rfl
theorem q1069 : (Jvm.Cond.lays "ThreeSizes$Fault" "java/lang/Throwable" "detailMessage" "Ljava/lang/String;") ∈ lw_all := lw_g (lw_at lw_m5 44 rfl) rfl
theorem q1070 : (Jvm.Cond.lays "ThreeSizes$Fault" "java/lang/Throwable" "backtrace" "Ljava/lang/Object;") ∈ lw_all := lw_g (lw_at lw_m5 45 rfl) rfl
theorem q1072 : (Jvm.Cond.instanceMethod ({ cls := "ThreeSizes$Fault", name := "<init>", desc := "(I)V" } : Jvm.MethodName)) ∈ lw_all := lw_g (lw_at lw_m5 47 rfl) rfl
theorem q1073 : (Jvm.Cond.code ({ cls := "ThreeSizes$Fault", name := "<init>", desc := "(I)V" } : Jvm.MethodName) prog_4_method_1_code (2 : Nat) (Option.none : Option Jvm.ClassFile.FieldType)) ∈ lw_all := lw_g (lw_at lw_m5 48 rfl) rfl
theorem q1074 : (Jvm.Cond.methodLink "ThreeSizes$Fault" (1 : Nat) ({ cls := "java/lang/Exception", name := "<init>", desc := "(Ljava/lang/String;Ljava/lang/Throwable;ZZ)V" } : Jvm.MethodName)) ∈ lw_all := lw_g (lw_at lw_m5 49 rfl) rfl
theorem q1075 : (Jvm.Cond.fieldLink "ThreeSizes$Fault" (7 : Nat) "ThreeSizes$Fault" "place" "I") ∈ lw_all := lw_g (lw_at lw_m5 50 rfl) rfl
theorem q1077 : (Jvm.Cond.laysFinal "ThreeSizes$Fault" "ThreeSizes$Fault" "place" "I") ∈ lw_all := lw_g (lw_at lw_m5 52 rfl) rfl
theorem q1078 : (Jvm.Cond.soleField "ThreeSizes$Fault" "place") ∈ lw_all := lw_g (lw_at lw_m5 53 rfl) rfl
theorem q1079 : (Jvm.Cond.lays "ThreeSizes$Fault" "java/lang/Throwable" "depth" "I") ∈ lw_all := lw_g (lw_at lw_m5 54 rfl) rfl
theorem q1080 : (Jvm.Cond.superclass "ThreeSizes$Fault" "java/lang/Exception") ∈ lw_all := lw_g (lw_at lw_m5 55 rfl) rfl
theorem in_X15 : ∀ w ∈ wsX150, w ∈ lw_all := lw_in wsX150 [1066, 1067, 1068, 1069, 1070, 1079, 1077] (by decide +kernel) (by decide +kernel)
/-! ThreeSizes$Placing -/
set_option maxRecDepth 100000
def RX16 : String := "ThreeSizes$Placing"
def TX16 : u_T := fun k => match k with
  | 0 => ("ThreeSizes$Placing", "wall", "LThreeSizes$Wall;", true)
  | 1 => ("ThreeSizes$Placing", "sorts", "[I", true)
  | 2 => ("ThreeSizes$Placing", "then", "[J", true)
  | 3 => ("ThreeSizes$Placing", "tried", "[I", true)
  | 4 => ("ThreeSizes$Placing", "best", "[I", true)
  | 5 => ("ThreeSizes$Placing", "isTold", "Z", false)
  | _ => ("ThreeSizes$Placing", "sum", "J", false)
def tyX16 : Nat → FieldType := fun k => match k with
  | 0 => .object "ThreeSizes$Wall"
  | 1 => .array .int
  | 2 => .array .long
  | 3 => .array .int
  | 4 => .array .int
  | 5 => .boolean
  | _ => .long
abbrev wsX160 : List Cond := u_ws RX16 TX16 7
theorem nmX16 : ∀ a, a < 7 → ∀ b, b < 7 → a ≠ b → (TX16 a).2.1 ≠ (TX16 b).2.1 := by decide +kernel
theorem tyX16_ok : ∀ k, k < 7 → parseFieldDescriptor (TX16 k).2.2.1 = some (tyX16 k) := by decide +kernel
abbrev cX16_init : ByteArray := prog_8_method_1_code
def yX16_init : MethodName := ⟨RX16, "<init>", "(LThreeSizes$Wall;[II)V"⟩
def dkwX16_init_2 : List UInt8 := [3, 43, 182, 0, 38, 9, 182, 0, 44, 177]
abbrev dktX16_init_2 : List UInt8 := dkwX16_init_2 ++ []
def dkwX16_init_1 : List UInt8 := [29, 182, 0, 24, 181, 0, 28, 42, 44, 190, 188, 10, 181, 0, 32, 42, 44, 190, 188, 10, 181, 0, 35, 42]
abbrev dktX16_init_1 : List UInt8 := dkwX16_init_1 ++ dktX16_init_2
def dkwX16_init_0 : List UInt8 := [42, 183, 0, 3, 42, 43, 181, 0, 9, 42, 44, 181, 0, 15, 42, 187, 0, 19, 89, 43, 1, 183, 0, 21]
abbrev dktX16_init_0 : List UInt8 := dkwX16_init_0 ++ dktX16_init_1
theorem dksX16_init_0 : cX16_init.data.toList.drop 0 = dktX16_init_0 := by decide +kernel
theorem dksX16_init_1 : cX16_init.data.toList.drop 24 = dktX16_init_1 := dk_seg dksX16_init_0 24 rfl rfl
theorem dksX16_init_2 : cX16_init.data.toList.drop 48 = dktX16_init_2 := dk_seg dksX16_init_1 24 rfl rfl
theorem dX16_init_0 : decode cX16_init 0 = .ok (.aload_n 0, 1) := dk_42 (dk_at dksX16_init_0 0 rfl rfl)
theorem dX16_init_1 : decode cX16_init 1 = .ok (.invokespecial 3, 3) := dk_183 0 3 (dk_at dksX16_init_0 1 rfl rfl)
theorem dX16_init_4 : decode cX16_init 4 = .ok (.aload_n 0, 1) := dk_42 (dk_at dksX16_init_0 4 rfl rfl)
theorem dX16_init_5 : decode cX16_init 5 = .ok (.aload_n 1, 1) := dk_43 (dk_at dksX16_init_0 5 rfl rfl)
theorem dX16_init_6 : decode cX16_init 6 = .ok (.putfield 9, 3) := dk_181 0 9 (dk_at dksX16_init_0 6 rfl rfl)
theorem dX16_init_9 : decode cX16_init 9 = .ok (.aload_n 0, 1) := dk_42 (dk_at dksX16_init_0 9 rfl rfl)
theorem dX16_init_10 : decode cX16_init 10 = .ok (.aload_n 2, 1) := dk_44 (dk_at dksX16_init_0 10 rfl rfl)
theorem dX16_init_11 : decode cX16_init 11 = .ok (.putfield 15, 3) := dk_181 0 15 (dk_at dksX16_init_0 11 rfl rfl)
theorem dX16_init_14 : decode cX16_init 14 = .ok (.aload_n 0, 1) := dk_42 (dk_at dksX16_init_0 14 rfl rfl)
theorem dX16_init_15 : decode cX16_init 15 = .ok (.new 19, 3) := dk_187 0 19 (dk_at dksX16_init_0 15 rfl rfl)
theorem dX16_init_18 : decode cX16_init 18 = .ok (.dup, 1) := dk_89 (dk_at dksX16_init_0 18 rfl rfl)
theorem dX16_init_19 : decode cX16_init 19 = .ok (.aload_n 1, 1) := dk_43 (dk_at dksX16_init_0 19 rfl rfl)
theorem dX16_init_20 : decode cX16_init 20 = .ok (.aconst_null, 1) := dk_1 (dk_at dksX16_init_0 20 rfl rfl)
theorem dX16_init_21 : decode cX16_init 21 = .ok (.invokespecial 21, 3) := dk_183 0 21 (dk_at dksX16_init_0 21 rfl rfl)
theorem dX16_init_24 : decode cX16_init 24 = .ok (.iload_n 3, 1) := dk_29 (dk_at dksX16_init_1 0 rfl rfl)
theorem dX16_init_25 : decode cX16_init 25 = .ok (.invokevirtual 24, 3) := dk_182 0 24 (dk_at dksX16_init_1 1 rfl rfl)
theorem dX16_init_28 : decode cX16_init 28 = .ok (.putfield 28, 3) := dk_181 0 28 (dk_at dksX16_init_1 4 rfl rfl)
theorem dX16_init_31 : decode cX16_init 31 = .ok (.aload_n 0, 1) := dk_42 (dk_at dksX16_init_1 7 rfl rfl)
theorem dX16_init_32 : decode cX16_init 32 = .ok (.aload_n 2, 1) := dk_44 (dk_at dksX16_init_1 8 rfl rfl)
theorem dX16_init_33 : decode cX16_init 33 = .ok (.arraylength, 1) := dk_190 (dk_at dksX16_init_1 9 rfl rfl)
theorem dX16_init_34 : decode cX16_init 34 = .ok (.newarray .int, 2) := dk_188_10 (dk_at dksX16_init_1 10 rfl rfl)
theorem dX16_init_36 : decode cX16_init 36 = .ok (.putfield 32, 3) := dk_181 0 32 (dk_at dksX16_init_1 12 rfl rfl)
theorem dX16_init_39 : decode cX16_init 39 = .ok (.aload_n 0, 1) := dk_42 (dk_at dksX16_init_1 15 rfl rfl)
theorem dX16_init_40 : decode cX16_init 40 = .ok (.aload_n 2, 1) := dk_44 (dk_at dksX16_init_1 16 rfl rfl)
theorem dX16_init_41 : decode cX16_init 41 = .ok (.arraylength, 1) := dk_190 (dk_at dksX16_init_1 17 rfl rfl)
theorem dX16_init_42 : decode cX16_init 42 = .ok (.newarray .int, 2) := dk_188_10 (dk_at dksX16_init_1 18 rfl rfl)
theorem dX16_init_44 : decode cX16_init 44 = .ok (.putfield 35, 3) := dk_181 0 35 (dk_at dksX16_init_1 20 rfl rfl)
theorem dX16_init_47 : decode cX16_init 47 = .ok (.aload_n 0, 1) := dk_42 (dk_at dksX16_init_1 23 rfl rfl)
theorem dX16_init_48 : decode cX16_init 48 = .ok (.iconst 0, 1) := dk_3 (dk_at dksX16_init_2 0 rfl rfl)
theorem dX16_init_49 : decode cX16_init 49 = .ok (.aload_n 1, 1) := dk_43 (dk_at dksX16_init_2 1 rfl rfl)
theorem dX16_init_50 : decode cX16_init 50 = .ok (.invokevirtual 38, 3) := dk_182 0 38 (dk_at dksX16_init_2 2 rfl rfl)
theorem dX16_init_53 : decode cX16_init 53 = .ok (.lconst 0, 1) := dk_9 (dk_at dksX16_init_2 5 rfl rfl)
theorem dX16_init_54 : decode cX16_init 54 = .ok (.invokevirtual 44, 3) := dk_182 0 44 (dk_at dksX16_init_2 6 rfl rfl)
theorem dX16_init_57 : decode cX16_init 57 = .ok (.return_, 1) := dk_177 (dk_at dksX16_init_2 9 rfl rfl)
abbrev cX16_goes : ByteArray := prog_8_method_2_code
def yX16_goes : MethodName := ⟨RX16, "goes", "(IIJ)V"⟩
def dkwX16_goes_7 : List UInt8 := [97, 182, 0, 44, 132, 5, 1, 167, 255, 185, 177]
abbrev dktX16_goes_7 : List UInt8 := dkwX16_goes_7 ++ []
def dkwX16_goes_6 : List UInt8 := [184, 0, 70, 100, 33, 20, 0, 74, 42, 180, 0, 9, 180, 0, 76, 42, 180, 0, 15, 27, 46, 46, 133, 105]
abbrev dktX16_goes_6 : List UInt8 := dkwX16_goes_6 ++ dktX16_goes_7
def dkwX16_goes_5 : List UInt8 := [28, 182, 0, 66, 153, 0, 46, 42, 180, 0, 32, 27, 21, 5, 79, 42, 27, 4, 96, 28, 21, 5]
abbrev dktX16_goes_5 : List UInt8 := dkwX16_goes_5 ++ dktX16_goes_6
def dkwX16_goes_4 : List UInt8 := [182, 0, 44, 3, 54, 5, 21, 5, 6, 162, 0, 71, 42, 180, 0, 9, 42, 180, 0, 15, 27, 46, 21, 5]
abbrev dktX16_goes_4 : List UInt8 := dkwX16_goes_4 ++ dktX16_goes_5
def dkwX16_goes_3 : List UInt8 := [2, 79, 42, 27, 4, 96, 28, 33, 42, 180, 0, 9, 42, 180, 0, 15, 27, 46, 182, 0, 62, 97]
abbrev dktX16_goes_3 : List UInt8 := dkwX16_goes_3 ++ dktX16_goes_4
def dkwX16_goes_2 : List UInt8 := [42, 180, 0, 32, 3, 42, 180, 0, 35, 3, 42, 180, 0, 32, 190, 184, 0, 56, 177, 42, 180, 0, 32, 27]
abbrev dktX16_goes_2 : List UInt8 := dkwX16_goes_2 ++ dktX16_goes_3
def dkwX16_goes_1 : List UInt8 := [153, 0, 13, 22, 5, 42, 180, 0, 52, 148, 158, 0, 32, 42, 4, 181, 0, 48, 42, 22, 5, 181, 0, 52]
abbrev dktX16_goes_1 : List UInt8 := dkwX16_goes_1 ++ dktX16_goes_2
def dkwX16_goes_0 : List UInt8 := [27, 42, 180, 0, 15, 190, 160, 0, 60, 33, 42, 180, 0, 28, 28, 47, 97, 55, 5, 42, 180, 0, 48]
abbrev dktX16_goes_0 : List UInt8 := dkwX16_goes_0 ++ dktX16_goes_1
theorem dksX16_goes_0 : cX16_goes.data.toList.drop 0 = dktX16_goes_0 := by decide +kernel
theorem dksX16_goes_1 : cX16_goes.data.toList.drop 23 = dktX16_goes_1 := dk_seg dksX16_goes_0 23 rfl rfl
theorem dksX16_goes_2 : cX16_goes.data.toList.drop 47 = dktX16_goes_2 := dk_seg dksX16_goes_1 24 rfl rfl
theorem dksX16_goes_3 : cX16_goes.data.toList.drop 71 = dktX16_goes_3 := dk_seg dksX16_goes_2 24 rfl rfl
theorem dksX16_goes_4 : cX16_goes.data.toList.drop 93 = dktX16_goes_4 := dk_seg dksX16_goes_3 22 rfl rfl
theorem dksX16_goes_5 : cX16_goes.data.toList.drop 117 = dktX16_goes_5 := dk_seg dksX16_goes_4 24 rfl rfl
theorem dksX16_goes_6 : cX16_goes.data.toList.drop 139 = dktX16_goes_6 := dk_seg dksX16_goes_5 22 rfl rfl
theorem dksX16_goes_7 : cX16_goes.data.toList.drop 163 = dktX16_goes_7 := dk_seg dksX16_goes_6 24 rfl rfl
theorem dX16_goes_0 : decode cX16_goes 0 = .ok (.iload_n 1, 1) := dk_27 (dk_at dksX16_goes_0 0 rfl rfl)
theorem dX16_goes_1 : decode cX16_goes 1 = .ok (.aload_n 0, 1) := dk_42 (dk_at dksX16_goes_0 1 rfl rfl)
theorem dX16_goes_2 : decode cX16_goes 2 = .ok (.getfield 15, 3) := dk_180 0 15 (dk_at dksX16_goes_0 2 rfl rfl)
theorem dX16_goes_5 : decode cX16_goes 5 = .ok (.arraylength, 1) := dk_190 (dk_at dksX16_goes_0 5 rfl rfl)
theorem dX16_goes_6 : decode cX16_goes 6 = .ok (.if_icmp .ne 60, 3) := dk_160 0 60 (dk_at dksX16_goes_0 6 rfl rfl)
theorem dX16_goes_9 : decode cX16_goes 9 = .ok (.lload_n 3, 1) := dk_33 (dk_at dksX16_goes_0 9 rfl rfl)
theorem dX16_goes_10 : decode cX16_goes 10 = .ok (.aload_n 0, 1) := dk_42 (dk_at dksX16_goes_0 10 rfl rfl)
theorem dX16_goes_11 : decode cX16_goes 11 = .ok (.getfield 28, 3) := dk_180 0 28 (dk_at dksX16_goes_0 11 rfl rfl)
theorem dX16_goes_14 : decode cX16_goes 14 = .ok (.iload_n 2, 1) := dk_28 (dk_at dksX16_goes_0 14 rfl rfl)
theorem dX16_goes_15 : decode cX16_goes 15 = .ok (.laload, 1) := dk_47 (dk_at dksX16_goes_0 15 rfl rfl)
theorem dX16_goes_16 : decode cX16_goes 16 = .ok (.ladd, 1) := dk_97 (dk_at dksX16_goes_0 16 rfl rfl)
theorem dX16_goes_17 : decode cX16_goes 17 = .ok (.lstore 5, 2) := dk_55 5 (dk_at dksX16_goes_0 17 rfl rfl)
theorem dX16_goes_19 : decode cX16_goes 19 = .ok (.aload_n 0, 1) := dk_42 (dk_at dksX16_goes_0 19 rfl rfl)
theorem dX16_goes_20 : decode cX16_goes 20 = .ok (.getfield 48, 3) := dk_180 0 48 (dk_at dksX16_goes_0 20 rfl rfl)
theorem dX16_goes_23 : decode cX16_goes 23 = .ok (.ifCond .eq 13, 3) := dk_153 0 13 (dk_at dksX16_goes_1 0 rfl rfl)
theorem dX16_goes_26 : decode cX16_goes 26 = .ok (.lload 5, 2) := dk_22 5 (dk_at dksX16_goes_1 3 rfl rfl)
theorem dX16_goes_28 : decode cX16_goes 28 = .ok (.aload_n 0, 1) := dk_42 (dk_at dksX16_goes_1 5 rfl rfl)
theorem dX16_goes_29 : decode cX16_goes 29 = .ok (.getfield 52, 3) := dk_180 0 52 (dk_at dksX16_goes_1 6 rfl rfl)
theorem dX16_goes_32 : decode cX16_goes 32 = .ok (.lcmp, 1) := dk_148 (dk_at dksX16_goes_1 9 rfl rfl)
theorem dX16_goes_33 : decode cX16_goes 33 = .ok (.ifCond .le 32, 3) := dk_158 0 32 (dk_at dksX16_goes_1 10 rfl rfl)
theorem dX16_goes_36 : decode cX16_goes 36 = .ok (.aload_n 0, 1) := dk_42 (dk_at dksX16_goes_1 13 rfl rfl)
theorem dX16_goes_37 : decode cX16_goes 37 = .ok (.iconst 1, 1) := dk_4 (dk_at dksX16_goes_1 14 rfl rfl)
theorem dX16_goes_38 : decode cX16_goes 38 = .ok (.putfield 48, 3) := dk_181 0 48 (dk_at dksX16_goes_1 15 rfl rfl)
theorem dX16_goes_41 : decode cX16_goes 41 = .ok (.aload_n 0, 1) := dk_42 (dk_at dksX16_goes_1 18 rfl rfl)
theorem dX16_goes_42 : decode cX16_goes 42 = .ok (.lload 5, 2) := dk_22 5 (dk_at dksX16_goes_1 19 rfl rfl)
theorem dX16_goes_44 : decode cX16_goes 44 = .ok (.putfield 52, 3) := dk_181 0 52 (dk_at dksX16_goes_1 21 rfl rfl)
theorem dX16_goes_47 : decode cX16_goes 47 = .ok (.aload_n 0, 1) := dk_42 (dk_at dksX16_goes_2 0 rfl rfl)
theorem dX16_goes_48 : decode cX16_goes 48 = .ok (.getfield 32, 3) := dk_180 0 32 (dk_at dksX16_goes_2 1 rfl rfl)
theorem dX16_goes_51 : decode cX16_goes 51 = .ok (.iconst 0, 1) := dk_3 (dk_at dksX16_goes_2 4 rfl rfl)
theorem dX16_goes_52 : decode cX16_goes 52 = .ok (.aload_n 0, 1) := dk_42 (dk_at dksX16_goes_2 5 rfl rfl)
theorem dX16_goes_53 : decode cX16_goes 53 = .ok (.getfield 35, 3) := dk_180 0 35 (dk_at dksX16_goes_2 6 rfl rfl)
theorem dX16_goes_56 : decode cX16_goes 56 = .ok (.iconst 0, 1) := dk_3 (dk_at dksX16_goes_2 9 rfl rfl)
theorem dX16_goes_57 : decode cX16_goes 57 = .ok (.aload_n 0, 1) := dk_42 (dk_at dksX16_goes_2 10 rfl rfl)
theorem dX16_goes_58 : decode cX16_goes 58 = .ok (.getfield 32, 3) := dk_180 0 32 (dk_at dksX16_goes_2 11 rfl rfl)
theorem dX16_goes_61 : decode cX16_goes 61 = .ok (.arraylength, 1) := dk_190 (dk_at dksX16_goes_2 14 rfl rfl)
theorem dX16_goes_62 : decode cX16_goes 62 = .ok (.invokestatic 56, 3) := dk_184 0 56 (dk_at dksX16_goes_2 15 rfl rfl)
theorem dX16_goes_65 : decode cX16_goes 65 = .ok (.return_, 1) := dk_177 (dk_at dksX16_goes_2 18 rfl rfl)
theorem dX16_goes_66 : decode cX16_goes 66 = .ok (.aload_n 0, 1) := dk_42 (dk_at dksX16_goes_2 19 rfl rfl)
theorem dX16_goes_67 : decode cX16_goes 67 = .ok (.getfield 32, 3) := dk_180 0 32 (dk_at dksX16_goes_2 20 rfl rfl)
theorem dX16_goes_70 : decode cX16_goes 70 = .ok (.iload_n 1, 1) := dk_27 (dk_at dksX16_goes_2 23 rfl rfl)
theorem dX16_goes_71 : decode cX16_goes 71 = .ok (.iconst (-1), 1) := dk_2 (dk_at dksX16_goes_3 0 rfl rfl)
theorem dX16_goes_72 : decode cX16_goes 72 = .ok (.iastore, 1) := dk_79 (dk_at dksX16_goes_3 1 rfl rfl)
theorem dX16_goes_73 : decode cX16_goes 73 = .ok (.aload_n 0, 1) := dk_42 (dk_at dksX16_goes_3 2 rfl rfl)
theorem dX16_goes_74 : decode cX16_goes 74 = .ok (.iload_n 1, 1) := dk_27 (dk_at dksX16_goes_3 3 rfl rfl)
theorem dX16_goes_75 : decode cX16_goes 75 = .ok (.iconst 1, 1) := dk_4 (dk_at dksX16_goes_3 4 rfl rfl)
theorem dX16_goes_76 : decode cX16_goes 76 = .ok (.iadd, 1) := dk_96 (dk_at dksX16_goes_3 5 rfl rfl)
theorem dX16_goes_77 : decode cX16_goes 77 = .ok (.iload_n 2, 1) := dk_28 (dk_at dksX16_goes_3 6 rfl rfl)
theorem dX16_goes_78 : decode cX16_goes 78 = .ok (.lload_n 3, 1) := dk_33 (dk_at dksX16_goes_3 7 rfl rfl)
theorem dX16_goes_79 : decode cX16_goes 79 = .ok (.aload_n 0, 1) := dk_42 (dk_at dksX16_goes_3 8 rfl rfl)
theorem dX16_goes_80 : decode cX16_goes 80 = .ok (.getfield 9, 3) := dk_180 0 9 (dk_at dksX16_goes_3 9 rfl rfl)
theorem dX16_goes_83 : decode cX16_goes 83 = .ok (.aload_n 0, 1) := dk_42 (dk_at dksX16_goes_3 12 rfl rfl)
theorem dX16_goes_84 : decode cX16_goes 84 = .ok (.getfield 15, 3) := dk_180 0 15 (dk_at dksX16_goes_3 13 rfl rfl)
theorem dX16_goes_87 : decode cX16_goes 87 = .ok (.iload_n 1, 1) := dk_27 (dk_at dksX16_goes_3 16 rfl rfl)
theorem dX16_goes_88 : decode cX16_goes 88 = .ok (.iaload, 1) := dk_46 (dk_at dksX16_goes_3 17 rfl rfl)
theorem dX16_goes_89 : decode cX16_goes 89 = .ok (.invokevirtual 62, 3) := dk_182 0 62 (dk_at dksX16_goes_3 18 rfl rfl)
theorem dX16_goes_92 : decode cX16_goes 92 = .ok (.ladd, 1) := dk_97 (dk_at dksX16_goes_3 21 rfl rfl)
theorem dX16_goes_93 : decode cX16_goes 93 = .ok (.invokevirtual 44, 3) := dk_182 0 44 (dk_at dksX16_goes_4 0 rfl rfl)
theorem dX16_goes_96 : decode cX16_goes 96 = .ok (.iconst 0, 1) := dk_3 (dk_at dksX16_goes_4 3 rfl rfl)
theorem dX16_goes_97 : decode cX16_goes 97 = .ok (.istore 5, 2) := dk_54 5 (dk_at dksX16_goes_4 4 rfl rfl)
theorem dX16_goes_99 : decode cX16_goes 99 = .ok (.iload 5, 2) := dk_21 5 (dk_at dksX16_goes_4 6 rfl rfl)
theorem dX16_goes_101 : decode cX16_goes 101 = .ok (.iconst 3, 1) := dk_6 (dk_at dksX16_goes_4 8 rfl rfl)
theorem dX16_goes_102 : decode cX16_goes 102 = .ok (.if_icmp .ge 71, 3) := dk_162 0 71 (dk_at dksX16_goes_4 9 rfl rfl)
theorem dX16_goes_105 : decode cX16_goes 105 = .ok (.aload_n 0, 1) := dk_42 (dk_at dksX16_goes_4 12 rfl rfl)
theorem dX16_goes_106 : decode cX16_goes 106 = .ok (.getfield 9, 3) := dk_180 0 9 (dk_at dksX16_goes_4 13 rfl rfl)
theorem dX16_goes_109 : decode cX16_goes 109 = .ok (.aload_n 0, 1) := dk_42 (dk_at dksX16_goes_4 16 rfl rfl)
theorem dX16_goes_110 : decode cX16_goes 110 = .ok (.getfield 15, 3) := dk_180 0 15 (dk_at dksX16_goes_4 17 rfl rfl)
theorem dX16_goes_113 : decode cX16_goes 113 = .ok (.iload_n 1, 1) := dk_27 (dk_at dksX16_goes_4 20 rfl rfl)
theorem dX16_goes_114 : decode cX16_goes 114 = .ok (.iaload, 1) := dk_46 (dk_at dksX16_goes_4 21 rfl rfl)
theorem dX16_goes_115 : decode cX16_goes 115 = .ok (.iload 5, 2) := dk_21 5 (dk_at dksX16_goes_4 22 rfl rfl)
theorem dX16_goes_117 : decode cX16_goes 117 = .ok (.iload_n 2, 1) := dk_28 (dk_at dksX16_goes_5 0 rfl rfl)
theorem dX16_goes_118 : decode cX16_goes 118 = .ok (.invokevirtual 66, 3) := dk_182 0 66 (dk_at dksX16_goes_5 1 rfl rfl)
theorem dX16_goes_121 : decode cX16_goes 121 = .ok (.ifCond .eq 46, 3) := dk_153 0 46 (dk_at dksX16_goes_5 4 rfl rfl)
theorem dX16_goes_124 : decode cX16_goes 124 = .ok (.aload_n 0, 1) := dk_42 (dk_at dksX16_goes_5 7 rfl rfl)
theorem dX16_goes_125 : decode cX16_goes 125 = .ok (.getfield 32, 3) := dk_180 0 32 (dk_at dksX16_goes_5 8 rfl rfl)
theorem dX16_goes_128 : decode cX16_goes 128 = .ok (.iload_n 1, 1) := dk_27 (dk_at dksX16_goes_5 11 rfl rfl)
theorem dX16_goes_129 : decode cX16_goes 129 = .ok (.iload 5, 2) := dk_21 5 (dk_at dksX16_goes_5 12 rfl rfl)
theorem dX16_goes_131 : decode cX16_goes 131 = .ok (.iastore, 1) := dk_79 (dk_at dksX16_goes_5 14 rfl rfl)
theorem dX16_goes_132 : decode cX16_goes 132 = .ok (.aload_n 0, 1) := dk_42 (dk_at dksX16_goes_5 15 rfl rfl)
theorem dX16_goes_133 : decode cX16_goes 133 = .ok (.iload_n 1, 1) := dk_27 (dk_at dksX16_goes_5 16 rfl rfl)
theorem dX16_goes_134 : decode cX16_goes 134 = .ok (.iconst 1, 1) := dk_4 (dk_at dksX16_goes_5 17 rfl rfl)
theorem dX16_goes_135 : decode cX16_goes 135 = .ok (.iadd, 1) := dk_96 (dk_at dksX16_goes_5 18 rfl rfl)
theorem dX16_goes_136 : decode cX16_goes 136 = .ok (.iload_n 2, 1) := dk_28 (dk_at dksX16_goes_5 19 rfl rfl)
theorem dX16_goes_137 : decode cX16_goes 137 = .ok (.iload 5, 2) := dk_21 5 (dk_at dksX16_goes_5 20 rfl rfl)
theorem dX16_goes_139 : decode cX16_goes 139 = .ok (.invokestatic 70, 3) := dk_184 0 70 (dk_at dksX16_goes_6 0 rfl rfl)
theorem dX16_goes_142 : decode cX16_goes 142 = .ok (.isub, 1) := dk_100 (dk_at dksX16_goes_6 3 rfl rfl)
theorem dX16_goes_143 : decode cX16_goes 143 = .ok (.lload_n 3, 1) := dk_33 (dk_at dksX16_goes_6 4 rfl rfl)
theorem dX16_goes_144 : decode cX16_goes 144 = .ok (.ldc2_w 74, 3) := dk_20 0 74 (dk_at dksX16_goes_6 5 rfl rfl)
theorem dX16_goes_147 : decode cX16_goes 147 = .ok (.aload_n 0, 1) := dk_42 (dk_at dksX16_goes_6 8 rfl rfl)
theorem dX16_goes_148 : decode cX16_goes 148 = .ok (.getfield 9, 3) := dk_180 0 9 (dk_at dksX16_goes_6 9 rfl rfl)
theorem dX16_goes_151 : decode cX16_goes 151 = .ok (.getfield 76, 3) := dk_180 0 76 (dk_at dksX16_goes_6 12 rfl rfl)
theorem dX16_goes_154 : decode cX16_goes 154 = .ok (.aload_n 0, 1) := dk_42 (dk_at dksX16_goes_6 15 rfl rfl)
theorem dX16_goes_155 : decode cX16_goes 155 = .ok (.getfield 15, 3) := dk_180 0 15 (dk_at dksX16_goes_6 16 rfl rfl)
theorem dX16_goes_158 : decode cX16_goes 158 = .ok (.iload_n 1, 1) := dk_27 (dk_at dksX16_goes_6 19 rfl rfl)
theorem dX16_goes_159 : decode cX16_goes 159 = .ok (.iaload, 1) := dk_46 (dk_at dksX16_goes_6 20 rfl rfl)
theorem dX16_goes_160 : decode cX16_goes 160 = .ok (.iaload, 1) := dk_46 (dk_at dksX16_goes_6 21 rfl rfl)
theorem dX16_goes_161 : decode cX16_goes 161 = .ok (.i2l, 1) := dk_133 (dk_at dksX16_goes_6 22 rfl rfl)
theorem dX16_goes_162 : decode cX16_goes 162 = .ok (.lmul, 1) := dk_105 (dk_at dksX16_goes_6 23 rfl rfl)
theorem dX16_goes_163 : decode cX16_goes 163 = .ok (.ladd, 1) := dk_97 (dk_at dksX16_goes_7 0 rfl rfl)
theorem dX16_goes_164 : decode cX16_goes 164 = .ok (.invokevirtual 44, 3) := dk_182 0 44 (dk_at dksX16_goes_7 1 rfl rfl)
theorem dX16_goes_167 : decode cX16_goes 167 = .ok (.iinc 5 1, 3) := dk_132 5 1 (dk_at dksX16_goes_7 4 rfl rfl)
theorem dX16_goes_170 : decode cX16_goes 170 = .ok (.goto (-71), 3) := dk_167 255 185 (dk_at dksX16_goes_7 7 rfl rfl)
theorem dX16_goes_173 : decode cX16_goes 173 = .ok (.return_, 1) := dk_177 (dk_at dksX16_goes_7 10 rfl rfl)
theorem q101 : (Jvm.Cond.initialized "ThreeSizes$Placing") ∈ lw_all := lw_g (lw_at lw_m1 36 rfl) rfl
theorem q143 : (Jvm.Cond.fieldLink "ThreeSizes$Placing" (76 : Nat) "ThreeSizes$Wall" "worth" "[I") ∈ lw_all := lw_g (lw_at lw_m1 78 rfl) rfl
theorem q1237 : (Jvm.Cond.instantiable "ThreeSizes$Placing" (7 : Nat)) ∈ lw_all := lw_g (lw_at lw_m5 212 rfl) rfl
theorem q1243 : (Jvm.Cond.instanceMethod ({ cls := "ThreeSizes$Placing", name := "<init>", desc := "(LThreeSizes$Wall;[II)V" } : Jvm.MethodName)) ∈ lw_all := lw_g (lw_at lw_m5 218 rfl) rfl
theorem q1244 : (Jvm.Cond.code ({ cls := "ThreeSizes$Placing", name := "<init>", desc := "(LThreeSizes$Wall;[II)V" } : Jvm.MethodName) prog_8_method_1_code (4 : Nat) (Option.none : Option Jvm.ClassFile.FieldType)) ∈ lw_all := lw_g (lw_at lw_m5 219 rfl) rfl
theorem q1245 : (Jvm.Cond.methodLink "ThreeSizes$Placing" (3 : Nat) ({ cls := "java/lang/Object", name := "<init>", desc := "()V" } : Jvm.MethodName)) ∈ lw_all := lw_g (lw_at lw_m5 220 rfl) rfl
theorem q1246 : (Jvm.Cond.classLink "ThreeSizes$Placing" (19 : Nat) "ThreeSizes$Worths") ∈ lw_all := lw_g (lw_at lw_m5 221 rfl) rfl
theorem q1247 : (Jvm.Cond.methodLink "ThreeSizes$Placing" (21 : Nat) ({ cls := "ThreeSizes$Worths", name := "<init>", desc := "(LThreeSizes$Wall;LThreeSizes$Rule;)V" } : Jvm.MethodName)) ∈ lw_all := lw_g (lw_at lw_m5 222 rfl) rfl
theorem q1248 : (Jvm.Cond.methodLink "ThreeSizes$Placing" (24 : Nat) ({ cls := "ThreeSizes$Worths", name := "after", desc := "(I)[J" } : Jvm.MethodName)) ∈ lw_all := lw_g (lw_at lw_m5 223 rfl) rfl
theorem q1249 : (Jvm.Cond.methodLink "ThreeSizes$Placing" (38 : Nat) ({ cls := "ThreeSizes$Wall", name := "state", desc := "()I" } : Jvm.MethodName)) ∈ lw_all := lw_g (lw_at lw_m5 224 rfl) rfl
theorem q1250 : (Jvm.Cond.methodLink "ThreeSizes$Placing" (44 : Nat) ({ cls := "ThreeSizes$Placing", name := "goes", desc := "(IIJ)V" } : Jvm.MethodName)) ∈ lw_all := lw_g (lw_at lw_m5 225 rfl) rfl
theorem q1251 : (Jvm.Cond.privateMethod ({ cls := "ThreeSizes$Placing", name := "goes", desc := "(IIJ)V" } : Jvm.MethodName)) ∈ lw_tbl := lw_at lw_m5 226 rfl
theorem q1252 : (Jvm.Cond.instanceMethod ({ cls := "ThreeSizes$Placing", name := "goes", desc := "(IIJ)V" } : Jvm.MethodName)) ∈ lw_all := lw_g (lw_at lw_m5 227 rfl) rfl
theorem q1253 : (Jvm.Cond.code ({ cls := "ThreeSizes$Placing", name := "goes", desc := "(IIJ)V" } : Jvm.MethodName) prog_8_method_2_code (7 : Nat) (Option.none : Option Jvm.ClassFile.FieldType)) ∈ lw_all := lw_g (lw_at lw_m5 228 rfl) rfl
theorem q1254 : (Jvm.Cond.methodLink "ThreeSizes$Placing" (56 : Nat) ({ cls := "java/lang/System", name := "arraycopy", desc := "(Ljava/lang/Object;ILjava/lang/Object;II)V" } : Jvm.MethodName)) ∈ lw_all := lw_g (lw_at lw_m5 229 rfl) rfl
theorem q1255 : (Jvm.Cond.methodLink "ThreeSizes$Placing" (62 : Nat) ({ cls := "ThreeSizes$Wall", name := "lost", desc := "(I)J" } : Jvm.MethodName)) ∈ lw_all := lw_g (lw_at lw_m5 230 rfl) rfl
theorem q1256 : (Jvm.Cond.methodLink "ThreeSizes$Placing" (66 : Nat) ({ cls := "ThreeSizes$Wall", name := "fits", desc := "(III)Z" } : Jvm.MethodName)) ∈ lw_all := lw_g (lw_at lw_m5 231 rfl) rfl
theorem q1257 : (Jvm.Cond.methodLinkNest "ThreeSizes$Placing" (70 : Nat) ({ cls := "ThreeSizes", name := "step", desc := "(I)I" } : Jvm.MethodName) "ThreeSizes") ∈ lw_tbl := lw_at lw_m5 232 rfl
theorem q1258 : (Jvm.Cond.constantLong "ThreeSizes$Placing" (74 : Nat) (1000000 : Int64)) ∈ lw_all := lw_g (lw_at lw_m5 233 rfl) rfl
theorem q1259 : (Jvm.Cond.fieldLink "ThreeSizes$Placing" (9 : Nat) "ThreeSizes$Placing" "wall" "LThreeSizes$Wall;") ∈ lw_all := lw_g (lw_at lw_m5 234 rfl) rfl
theorem q1260 : (Jvm.Cond.fieldLink "ThreeSizes$Placing" (15 : Nat) "ThreeSizes$Placing" "sorts" "[I") ∈ lw_all := lw_g (lw_at lw_m5 235 rfl) rfl
theorem q1261 : (Jvm.Cond.fieldLink "ThreeSizes$Placing" (28 : Nat) "ThreeSizes$Placing" "then" "[J") ∈ lw_all := lw_g (lw_at lw_m5 236 rfl) rfl
theorem q1262 : (Jvm.Cond.fieldLink "ThreeSizes$Placing" (32 : Nat) "ThreeSizes$Placing" "tried" "[I") ∈ lw_all := lw_g (lw_at lw_m5 237 rfl) rfl
theorem q1263 : (Jvm.Cond.fieldLink "ThreeSizes$Placing" (35 : Nat) "ThreeSizes$Placing" "best" "[I") ∈ lw_all := lw_g (lw_at lw_m5 238 rfl) rfl
theorem q1265 : (Jvm.Cond.fieldLink "ThreeSizes$Placing" (48 : Nat) "ThreeSizes$Placing" "isTold" "Z") ∈ lw_all := lw_g (lw_at lw_m6 0 rfl) rfl
theorem q1266 : (Jvm.Cond.fieldLink "ThreeSizes$Placing" (52 : Nat) "ThreeSizes$Placing" "sum" "J") ∈ lw_all := lw_g (lw_at lw_m6 1 rfl) rfl
theorem q1268 : (Jvm.Cond.laysFinal "ThreeSizes$Placing" "ThreeSizes$Placing" "wall" "LThreeSizes$Wall;") ∈ lw_all := lw_g (lw_at lw_m6 3 rfl) rfl
theorem q1269 : (Jvm.Cond.soleField "ThreeSizes$Placing" "wall") ∈ lw_all := lw_g (lw_at lw_m6 4 rfl) rfl
theorem q1270 : (Jvm.Cond.laysFinal "ThreeSizes$Placing" "ThreeSizes$Placing" "sorts" "[I") ∈ lw_all := lw_g (lw_at lw_m6 5 rfl) rfl
theorem q1271 : (Jvm.Cond.soleField "ThreeSizes$Placing" "sorts") ∈ lw_all := lw_g (lw_at lw_m6 6 rfl) rfl
theorem q1272 : (Jvm.Cond.laysFinal "ThreeSizes$Placing" "ThreeSizes$Placing" "then" "[J") ∈ lw_all := lw_g (lw_at lw_m6 7 rfl) rfl
theorem q1273 : (Jvm.Cond.soleField "ThreeSizes$Placing" "then") ∈ lw_all := lw_g (lw_at lw_m6 8 rfl) rfl
theorem q1274 : (Jvm.Cond.laysFinal "ThreeSizes$Placing" "ThreeSizes$Placing" "tried" "[I") ∈ lw_all := lw_g (lw_at lw_m6 9 rfl) rfl
theorem q1275 : (Jvm.Cond.soleField "ThreeSizes$Placing" "tried") ∈ lw_all := lw_g (lw_at lw_m6 10 rfl) rfl
theorem q1276 : (Jvm.Cond.laysFinal "ThreeSizes$Placing" "ThreeSizes$Placing" "best" "[I") ∈ lw_all := lw_g (lw_at lw_m6 11 rfl) rfl
theorem q1277 : (Jvm.Cond.soleField "ThreeSizes$Placing" "best") ∈ lw_all := lw_g (lw_at lw_m6 12 rfl) rfl
theorem q1278 : (Jvm.Cond.lays "ThreeSizes$Placing" "ThreeSizes$Placing" "isTold" "Z") ∈ lw_all := lw_g (lw_at lw_m6 13 rfl) rfl
theorem q1279 : (Jvm.Cond.soleField "ThreeSizes$Placing" "isTold") ∈ lw_all := lw_g (lw_at lw_m6 14 rfl) rfl
theorem q1280 : (Jvm.Cond.lays "ThreeSizes$Placing" "ThreeSizes$Placing" "sum" "J") ∈ lw_all := lw_g (lw_at lw_m6 15 rfl) rfl
theorem q1281 : (Jvm.Cond.soleField "ThreeSizes$Placing" "sum") ∈ lw_all := lw_g (lw_at lw_m6 16 rfl) rfl
theorem q1282 : (Jvm.Cond.superclass "ThreeSizes$Placing" "java/lang/Object") ∈ lw_all := lw_g (lw_at lw_m6 17 rfl) rfl
theorem in_X16 : ∀ w ∈ wsX160, w ∈ lw_all := lw_in wsX160 [1268, 1270, 1272, 1274, 1276, 1278, 1280] (by decide +kernel) (by decide +kernel)
