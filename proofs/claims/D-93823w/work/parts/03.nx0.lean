/-! ThreeSizes -/
set_option maxRecDepth 100000
def RX0 : String := "ThreeSizes"
def TX0 : u_T := fun k => match k with
  | 0 => ("ThreeSizes", "now", "LThreeSizes$Day;", false)
  | 1 => ("ThreeSizes", "image", "LThreeSizes$Day;", false)
  | 2 => ("ThreeSizes", "shelves", "[LThreeSizes$Sheet;", true)
  | 3 => ("ThreeSizes", "tape", "[I", true)
  | 4 => ("ThreeSizes", "size", "I", false)
  | _ => ("ThreeSizes", "refused", "[I", true)
def tyX0 : Nat → FieldType := fun k => match k with
  | 0 => .object "ThreeSizes$Day"
  | 1 => .object "ThreeSizes$Day"
  | 2 => .array (.object "ThreeSizes$Sheet")
  | 3 => .array .int
  | 4 => .int
  | _ => .array .int
abbrev wsX00 : List Cond := u_ws RX0 TX0 6
theorem nmX0 : ∀ a, a < 6 → ∀ b, b < 6 → a ≠ b → (TX0 a).2.1 ≠ (TX0 b).2.1 := by decide +kernel
theorem tyX0_ok : ∀ k, k < 6 → parseFieldDescriptor (TX0 k).2.2.1 = some (tyX0 k) := by decide +kernel
abbrev cX0_init : ByteArray := prog_1_method_7_code
def yX0_init : MethodName := ⟨RX0, "<init>", "()V"⟩
def dkwX0_init_2 : List UInt8 := [162, 0, 22, 42, 180, 0, 65, 27, 187, 0, 63, 89, 183, 0, 76, 83, 132, 1, 1, 167, 255, 234, 177]
abbrev dktX0_init_2 : List UInt8 := dkwX0_init_2 ++ []
def dkwX0_init_1 : List UInt8 := [42, 17, 0, 200, 188, 10, 181, 0, 69, 42, 16, 7, 188, 10, 181, 0, 73, 3, 60, 27, 16, 8]
abbrev dktX0_init_1 : List UInt8 := dkwX0_init_1 ++ dktX0_init_2
def dkwX0_init_0 : List UInt8 := [42, 183, 0, 51, 42, 187, 0, 56, 89, 183, 0, 58, 181, 0, 59, 42, 16, 8, 189, 0, 63, 181, 0, 65]
abbrev dktX0_init_0 : List UInt8 := dkwX0_init_0 ++ dktX0_init_1
theorem dksX0_init_0 : cX0_init.data.toList.drop 0 = dktX0_init_0 := by decide +kernel
theorem dksX0_init_1 : cX0_init.data.toList.drop 24 = dktX0_init_1 := dk_seg dksX0_init_0 24 rfl rfl
theorem dksX0_init_2 : cX0_init.data.toList.drop 46 = dktX0_init_2 := dk_seg dksX0_init_1 22 rfl rfl
theorem dX0_init_0 : decode cX0_init 0 = .ok (.aload_n 0, 1) := dk_42 (dk_at dksX0_init_0 0 rfl rfl)
theorem dX0_init_1 : decode cX0_init 1 = .ok (.invokespecial 51, 3) := dk_183 0 51 (dk_at dksX0_init_0 1 rfl rfl)
theorem dX0_init_4 : decode cX0_init 4 = .ok (.aload_n 0, 1) := dk_42 (dk_at dksX0_init_0 4 rfl rfl)
theorem dX0_init_5 : decode cX0_init 5 = .ok (.new 56, 3) := dk_187 0 56 (dk_at dksX0_init_0 5 rfl rfl)
theorem dX0_init_8 : decode cX0_init 8 = .ok (.dup, 1) := dk_89 (dk_at dksX0_init_0 8 rfl rfl)
theorem dX0_init_9 : decode cX0_init 9 = .ok (.invokespecial 58, 3) := dk_183 0 58 (dk_at dksX0_init_0 9 rfl rfl)
theorem dX0_init_12 : decode cX0_init 12 = .ok (.putfield 59, 3) := dk_181 0 59 (dk_at dksX0_init_0 12 rfl rfl)
theorem dX0_init_15 : decode cX0_init 15 = .ok (.aload_n 0, 1) := dk_42 (dk_at dksX0_init_0 15 rfl rfl)
theorem dX0_init_16 : decode cX0_init 16 = .ok (.bipush 8, 2) := dk_16 8 (dk_at dksX0_init_0 16 rfl rfl)
theorem dX0_init_18 : decode cX0_init 18 = .ok (.anewarray 63, 3) := dk_189 0 63 (dk_at dksX0_init_0 18 rfl rfl)
theorem dX0_init_21 : decode cX0_init 21 = .ok (.putfield 65, 3) := dk_181 0 65 (dk_at dksX0_init_0 21 rfl rfl)
theorem dX0_init_24 : decode cX0_init 24 = .ok (.aload_n 0, 1) := dk_42 (dk_at dksX0_init_1 0 rfl rfl)
theorem dX0_init_25 : decode cX0_init 25 = .ok (.sipush 200, 3) := dk_17 0 200 (dk_at dksX0_init_1 1 rfl rfl)
theorem dX0_init_28 : decode cX0_init 28 = .ok (.newarray .int, 2) := dk_188_10 (dk_at dksX0_init_1 4 rfl rfl)
theorem dX0_init_30 : decode cX0_init 30 = .ok (.putfield 69, 3) := dk_181 0 69 (dk_at dksX0_init_1 6 rfl rfl)
theorem dX0_init_33 : decode cX0_init 33 = .ok (.aload_n 0, 1) := dk_42 (dk_at dksX0_init_1 9 rfl rfl)
theorem dX0_init_34 : decode cX0_init 34 = .ok (.bipush 7, 2) := dk_16 7 (dk_at dksX0_init_1 10 rfl rfl)
theorem dX0_init_36 : decode cX0_init 36 = .ok (.newarray .int, 2) := dk_188_10 (dk_at dksX0_init_1 12 rfl rfl)
theorem dX0_init_38 : decode cX0_init 38 = .ok (.putfield 73, 3) := dk_181 0 73 (dk_at dksX0_init_1 14 rfl rfl)
theorem dX0_init_41 : decode cX0_init 41 = .ok (.iconst 0, 1) := dk_3 (dk_at dksX0_init_1 17 rfl rfl)
theorem dX0_init_42 : decode cX0_init 42 = .ok (.istore_n 1, 1) := dk_60 (dk_at dksX0_init_1 18 rfl rfl)
theorem dX0_init_43 : decode cX0_init 43 = .ok (.iload_n 1, 1) := dk_27 (dk_at dksX0_init_1 19 rfl rfl)
theorem dX0_init_44 : decode cX0_init 44 = .ok (.bipush 8, 2) := dk_16 8 (dk_at dksX0_init_1 20 rfl rfl)
theorem dX0_init_46 : decode cX0_init 46 = .ok (.if_icmp .ge 22, 3) := dk_162 0 22 (dk_at dksX0_init_2 0 rfl rfl)
theorem dX0_init_49 : decode cX0_init 49 = .ok (.aload_n 0, 1) := dk_42 (dk_at dksX0_init_2 3 rfl rfl)
theorem dX0_init_50 : decode cX0_init 50 = .ok (.getfield 65, 3) := dk_180 0 65 (dk_at dksX0_init_2 4 rfl rfl)
theorem dX0_init_53 : decode cX0_init 53 = .ok (.iload_n 1, 1) := dk_27 (dk_at dksX0_init_2 7 rfl rfl)
theorem dX0_init_54 : decode cX0_init 54 = .ok (.new 63, 3) := dk_187 0 63 (dk_at dksX0_init_2 8 rfl rfl)
theorem dX0_init_57 : decode cX0_init 57 = .ok (.dup, 1) := dk_89 (dk_at dksX0_init_2 11 rfl rfl)
theorem dX0_init_58 : decode cX0_init 58 = .ok (.invokespecial 76, 3) := dk_183 0 76 (dk_at dksX0_init_2 12 rfl rfl)
theorem dX0_init_61 : decode cX0_init 61 = .ok (.aastore, 1) := dk_83 (dk_at dksX0_init_2 15 rfl rfl)
theorem dX0_init_62 : decode cX0_init 62 = .ok (.iinc 1 1, 3) := dk_132 1 1 (dk_at dksX0_init_2 16 rfl rfl)
theorem dX0_init_65 : decode cX0_init 65 = .ok (.goto (-22), 3) := dk_167 255 234 (dk_at dksX0_init_2 19 rfl rfl)
theorem dX0_init_68 : decode cX0_init 68 = .ok (.return_, 1) := dk_177 (dk_at dksX0_init_2 22 rfl rfl)
abbrev cX0_row : ByteArray := prog_1_method_18_code
def yX0_row : MethodName := ⟨RX0, "row", "(III)I"⟩
def dkwX0_row_2 : List UInt8 := [58, 4, 42, 16, 254, 182, 0, 79, 172, 4, 172]
abbrev dktX0_row_2 : List UInt8 := dkwX0_row_2 ++ []
def dkwX0_row_1 : List UInt8 := [16, 254, 182, 0, 79, 172, 42, 180, 0, 65, 27, 50, 28, 29, 184, 0, 110, 181, 0, 114, 167, 0, 12]
abbrev dktX0_row_1 : List UInt8 := dkwX0_row_1 ++ dktX0_row_2
def dkwX0_row_0 : List UInt8 := [27, 184, 0, 106, 153, 0, 18, 28, 155, 0, 14, 28, 7, 163, 0, 9, 29, 16, 40, 164, 0, 10, 42]
abbrev dktX0_row_0 : List UInt8 := dkwX0_row_0 ++ dktX0_row_1
theorem dksX0_row_0 : cX0_row.data.toList.drop 0 = dktX0_row_0 := by decide +kernel
theorem dksX0_row_1 : cX0_row.data.toList.drop 23 = dktX0_row_1 := dk_seg dksX0_row_0 23 rfl rfl
theorem dksX0_row_2 : cX0_row.data.toList.drop 46 = dktX0_row_2 := dk_seg dksX0_row_1 23 rfl rfl
theorem dX0_row_0 : decode cX0_row 0 = .ok (.iload_n 1, 1) := dk_27 (dk_at dksX0_row_0 0 rfl rfl)
theorem dX0_row_1 : decode cX0_row 1 = .ok (.invokestatic 106, 3) := dk_184 0 106 (dk_at dksX0_row_0 1 rfl rfl)
theorem dX0_row_4 : decode cX0_row 4 = .ok (.ifCond .eq 18, 3) := dk_153 0 18 (dk_at dksX0_row_0 4 rfl rfl)
theorem dX0_row_7 : decode cX0_row 7 = .ok (.iload_n 2, 1) := dk_28 (dk_at dksX0_row_0 7 rfl rfl)
theorem dX0_row_8 : decode cX0_row 8 = .ok (.ifCond .lt 14, 3) := dk_155 0 14 (dk_at dksX0_row_0 8 rfl rfl)
theorem dX0_row_11 : decode cX0_row 11 = .ok (.iload_n 2, 1) := dk_28 (dk_at dksX0_row_0 11 rfl rfl)
theorem dX0_row_12 : decode cX0_row 12 = .ok (.iconst 4, 1) := dk_7 (dk_at dksX0_row_0 12 rfl rfl)
theorem dX0_row_13 : decode cX0_row 13 = .ok (.if_icmp .gt 9, 3) := dk_163 0 9 (dk_at dksX0_row_0 13 rfl rfl)
theorem dX0_row_16 : decode cX0_row 16 = .ok (.iload_n 3, 1) := dk_29 (dk_at dksX0_row_0 16 rfl rfl)
theorem dX0_row_17 : decode cX0_row 17 = .ok (.bipush 40, 2) := dk_16 40 (dk_at dksX0_row_0 17 rfl rfl)
theorem dX0_row_19 : decode cX0_row 19 = .ok (.if_icmp .le 10, 3) := dk_164 0 10 (dk_at dksX0_row_0 19 rfl rfl)
theorem dX0_row_22 : decode cX0_row 22 = .ok (.aload_n 0, 1) := dk_42 (dk_at dksX0_row_0 22 rfl rfl)
theorem dX0_row_23 : decode cX0_row 23 = .ok (.bipush (-2), 2) := dk_16 254 (dk_at dksX0_row_1 0 rfl rfl)
theorem dX0_row_25 : decode cX0_row 25 = .ok (.invokevirtual 79, 3) := dk_182 0 79 (dk_at dksX0_row_1 2 rfl rfl)
theorem dX0_row_28 : decode cX0_row 28 = .ok (.ireturn, 1) := dk_172 (dk_at dksX0_row_1 5 rfl rfl)
theorem dX0_row_29 : decode cX0_row 29 = .ok (.aload_n 0, 1) := dk_42 (dk_at dksX0_row_1 6 rfl rfl)
theorem dX0_row_30 : decode cX0_row 30 = .ok (.getfield 65, 3) := dk_180 0 65 (dk_at dksX0_row_1 7 rfl rfl)
theorem dX0_row_33 : decode cX0_row 33 = .ok (.iload_n 1, 1) := dk_27 (dk_at dksX0_row_1 10 rfl rfl)
theorem dX0_row_34 : decode cX0_row 34 = .ok (.aaload, 1) := dk_50 (dk_at dksX0_row_1 11 rfl rfl)
theorem dX0_row_35 : decode cX0_row 35 = .ok (.iload_n 2, 1) := dk_28 (dk_at dksX0_row_1 12 rfl rfl)
theorem dX0_row_36 : decode cX0_row 36 = .ok (.iload_n 3, 1) := dk_29 (dk_at dksX0_row_1 13 rfl rfl)
theorem dX0_row_37 : decode cX0_row 37 = .ok (.invokestatic 110, 3) := dk_184 0 110 (dk_at dksX0_row_1 14 rfl rfl)
theorem dX0_row_40 : decode cX0_row 40 = .ok (.putfield 114, 3) := dk_181 0 114 (dk_at dksX0_row_1 17 rfl rfl)
theorem dX0_row_43 : decode cX0_row 43 = .ok (.goto 12, 3) := dk_167 0 12 (dk_at dksX0_row_1 20 rfl rfl)
theorem dX0_row_46 : decode cX0_row 46 = .ok (.astore 4, 2) := dk_58 4 (dk_at dksX0_row_2 0 rfl rfl)
theorem dX0_row_48 : decode cX0_row 48 = .ok (.aload_n 0, 1) := dk_42 (dk_at dksX0_row_2 2 rfl rfl)
theorem dX0_row_49 : decode cX0_row 49 = .ok (.bipush (-2), 2) := dk_16 254 (dk_at dksX0_row_2 3 rfl rfl)
theorem dX0_row_51 : decode cX0_row 51 = .ok (.invokevirtual 79, 3) := dk_182 0 79 (dk_at dksX0_row_2 5 rfl rfl)
theorem dX0_row_54 : decode cX0_row 54 = .ok (.ireturn, 1) := dk_172 (dk_at dksX0_row_2 8 rfl rfl)
theorem dX0_row_55 : decode cX0_row 55 = .ok (.iconst 1, 1) := dk_4 (dk_at dksX0_row_2 9 rfl rfl)
theorem dX0_row_56 : decode cX0_row 56 = .ok (.ireturn, 1) := dk_172 (dk_at dksX0_row_2 10 rfl rfl)
abbrev cX0_isShelf : ByteArray := prog_1_method_10_code
def yX0_isShelf : MethodName := ⟨RX0, "isShelf", "(I)Z"⟩
def dkwX0_isShelf_0 : List UInt8 := [26, 3, 16, 7, 184, 0, 82, 172]
abbrev dktX0_isShelf_0 : List UInt8 := dkwX0_isShelf_0 ++ []
theorem dksX0_isShelf_0 : cX0_isShelf.data.toList.drop 0 = dktX0_isShelf_0 := by decide +kernel
theorem dX0_isShelf_0 : decode cX0_isShelf 0 = .ok (.iload_n 0, 1) := dk_26 (dk_at dksX0_isShelf_0 0 rfl rfl)
theorem dX0_isShelf_1 : decode cX0_isShelf 1 = .ok (.iconst 0, 1) := dk_3 (dk_at dksX0_isShelf_0 1 rfl rfl)
theorem dX0_isShelf_2 : decode cX0_isShelf 2 = .ok (.bipush 7, 2) := dk_16 7 (dk_at dksX0_isShelf_0 2 rfl rfl)
theorem dX0_isShelf_4 : decode cX0_isShelf 4 = .ok (.invokestatic 82, 3) := dk_184 0 82 (dk_at dksX0_isShelf_0 4 rfl rfl)
theorem dX0_isShelf_7 : decode cX0_isShelf 7 = .ok (.ireturn, 1) := dk_172 (dk_at dksX0_isShelf_0 7 rfl rfl)
abbrev cX0_isIn : ByteArray := prog_1_method_1_code
def yX0_isIn : MethodName := ⟨RX0, "isIn", "(III)Z"⟩
def dkwX0_isIn_0 : List UInt8 := [26, 27, 161, 0, 12, 26, 28, 163, 0, 7, 4, 167, 0, 4, 3, 172]
abbrev dktX0_isIn_0 : List UInt8 := dkwX0_isIn_0 ++ []
theorem dksX0_isIn_0 : cX0_isIn.data.toList.drop 0 = dktX0_isIn_0 := by decide +kernel
theorem dX0_isIn_0 : decode cX0_isIn 0 = .ok (.iload_n 0, 1) := dk_26 (dk_at dksX0_isIn_0 0 rfl rfl)
theorem dX0_isIn_1 : decode cX0_isIn 1 = .ok (.iload_n 1, 1) := dk_27 (dk_at dksX0_isIn_0 1 rfl rfl)
theorem dX0_isIn_2 : decode cX0_isIn 2 = .ok (.if_icmp .lt 12, 3) := dk_161 0 12 (dk_at dksX0_isIn_0 2 rfl rfl)
theorem dX0_isIn_5 : decode cX0_isIn 5 = .ok (.iload_n 0, 1) := dk_26 (dk_at dksX0_isIn_0 5 rfl rfl)
theorem dX0_isIn_6 : decode cX0_isIn 6 = .ok (.iload_n 2, 1) := dk_28 (dk_at dksX0_isIn_0 6 rfl rfl)
theorem dX0_isIn_7 : decode cX0_isIn 7 = .ok (.if_icmp .gt 7, 3) := dk_163 0 7 (dk_at dksX0_isIn_0 7 rfl rfl)
theorem dX0_isIn_10 : decode cX0_isIn 10 = .ok (.iconst 1, 1) := dk_4 (dk_at dksX0_isIn_0 10 rfl rfl)
theorem dX0_isIn_11 : decode cX0_isIn 11 = .ok (.goto 4, 3) := dk_167 0 4 (dk_at dksX0_isIn_0 11 rfl rfl)
theorem dX0_isIn_14 : decode cX0_isIn 14 = .ok (.iconst 0, 1) := dk_3 (dk_at dksX0_isIn_0 14 rfl rfl)
theorem dX0_isIn_15 : decode cX0_isIn 15 = .ok (.ireturn, 1) := dk_172 (dk_at dksX0_isIn_0 15 rfl rfl)
abbrev cX0_no : ByteArray := prog_1_method_8_code
def yX0_no : MethodName := ⟨RX0, "no", "(I)I"⟩
def dkwX0_no_0 : List UInt8 := [42, 180, 0, 73, 27, 116, 92, 46, 4, 96, 79, 27, 172]
abbrev dktX0_no_0 : List UInt8 := dkwX0_no_0 ++ []
theorem dksX0_no_0 : cX0_no.data.toList.drop 0 = dktX0_no_0 := by decide +kernel
theorem dX0_no_0 : decode cX0_no 0 = .ok (.aload_n 0, 1) := dk_42 (dk_at dksX0_no_0 0 rfl rfl)
theorem dX0_no_1 : decode cX0_no 1 = .ok (.getfield 73, 3) := dk_180 0 73 (dk_at dksX0_no_0 1 rfl rfl)
theorem dX0_no_4 : decode cX0_no 4 = .ok (.iload_n 1, 1) := dk_27 (dk_at dksX0_no_0 4 rfl rfl)
theorem dX0_no_5 : decode cX0_no 5 = .ok (.ineg, 1) := dk_116 (dk_at dksX0_no_0 5 rfl rfl)
theorem dX0_no_6 : decode cX0_no 6 = .ok (.dup2, 1) := dk_92 (dk_at dksX0_no_0 6 rfl rfl)
theorem dX0_no_7 : decode cX0_no 7 = .ok (.iaload, 1) := dk_46 (dk_at dksX0_no_0 7 rfl rfl)
theorem dX0_no_8 : decode cX0_no 8 = .ok (.iconst 1, 1) := dk_4 (dk_at dksX0_no_0 8 rfl rfl)
theorem dX0_no_9 : decode cX0_no 9 = .ok (.iadd, 1) := dk_96 (dk_at dksX0_no_0 9 rfl rfl)
theorem dX0_no_10 : decode cX0_no 10 = .ok (.iastore, 1) := dk_79 (dk_at dksX0_no_0 10 rfl rfl)
theorem dX0_no_11 : decode cX0_no 11 = .ok (.iload_n 1, 1) := dk_27 (dk_at dksX0_no_0 11 rfl rfl)
theorem dX0_no_12 : decode cX0_no 12 = .ok (.ireturn, 1) := dk_172 (dk_at dksX0_no_0 12 rfl rfl)
abbrev cX0_rowOf : ByteArray := prog_1_method_14_code
def yX0_rowOf : MethodName := ⟨RX0, "rowOf", "(II)Ljava/lang/Object;"⟩
def dkwX0_rowOf_2 : List UInt8 := [27, 188, 8, 176, 27, 188, 9, 176, 27, 188, 10, 176, 27, 188, 11, 176, 27, 188, 4, 176]
abbrev dktX0_rowOf_2 : List UInt8 := dkwX0_rowOf_2 ++ []
def dkwX0_rowOf_1 : List UInt8 := [170, 0, 0, 0, 0, 0, 47, 0, 0, 0, 0, 0, 0, 0, 3, 0, 0, 0, 31, 0, 0, 0, 35, 0, 0, 0, 39, 0, 0, 0, 43]
abbrev dktX0_rowOf_1 : List UInt8 := dkwX0_rowOf_1 ++ dktX0_rowOf_2
def dkwX0_rowOf_0 : List UInt8 := [26]
abbrev dktX0_rowOf_0 : List UInt8 := dkwX0_rowOf_0 ++ dktX0_rowOf_1
theorem dksX0_rowOf_0 : cX0_rowOf.data.toList.drop 0 = dktX0_rowOf_0 := by decide +kernel
theorem dksX0_rowOf_1 : cX0_rowOf.data.toList.drop 1 = dktX0_rowOf_1 := dk_seg dksX0_rowOf_0 1 rfl rfl
theorem dksX0_rowOf_2 : cX0_rowOf.data.toList.drop 32 = dktX0_rowOf_2 := dk_seg dksX0_rowOf_1 31 rfl rfl
theorem dX0_rowOf_0 : decode cX0_rowOf 0 = .ok (.iload_n 0, 1) := dk_26 (dk_at dksX0_rowOf_0 0 rfl rfl)
theorem dX0_rowOf_1 : decode cX0_rowOf 1 = .ok (.tableswitch 47 0 3 #[31, 35, 39, 43], 31) := by decide +kernel
theorem dX0_rowOf_32 : decode cX0_rowOf 32 = .ok (.iload_n 1, 1) := dk_27 (dk_at dksX0_rowOf_2 0 rfl rfl)
theorem dX0_rowOf_33 : decode cX0_rowOf 33 = .ok (.newarray .byte, 2) := dk_188_8 (dk_at dksX0_rowOf_2 1 rfl rfl)
theorem dX0_rowOf_35 : decode cX0_rowOf 35 = .ok (.areturn, 1) := dk_176 (dk_at dksX0_rowOf_2 3 rfl rfl)
theorem dX0_rowOf_36 : decode cX0_rowOf 36 = .ok (.iload_n 1, 1) := dk_27 (dk_at dksX0_rowOf_2 4 rfl rfl)
theorem dX0_rowOf_37 : decode cX0_rowOf 37 = .ok (.newarray .short, 2) := dk_188_9 (dk_at dksX0_rowOf_2 5 rfl rfl)
theorem dX0_rowOf_39 : decode cX0_rowOf 39 = .ok (.areturn, 1) := dk_176 (dk_at dksX0_rowOf_2 7 rfl rfl)
theorem dX0_rowOf_40 : decode cX0_rowOf 40 = .ok (.iload_n 1, 1) := dk_27 (dk_at dksX0_rowOf_2 8 rfl rfl)
theorem dX0_rowOf_41 : decode cX0_rowOf 41 = .ok (.newarray .int, 2) := dk_188_10 (dk_at dksX0_rowOf_2 9 rfl rfl)
theorem dX0_rowOf_43 : decode cX0_rowOf 43 = .ok (.areturn, 1) := dk_176 (dk_at dksX0_rowOf_2 11 rfl rfl)
theorem dX0_rowOf_44 : decode cX0_rowOf 44 = .ok (.iload_n 1, 1) := dk_27 (dk_at dksX0_rowOf_2 12 rfl rfl)
theorem dX0_rowOf_45 : decode cX0_rowOf 45 = .ok (.newarray .long, 2) := dk_188_11 (dk_at dksX0_rowOf_2 13 rfl rfl)
theorem dX0_rowOf_47 : decode cX0_rowOf 47 = .ok (.areturn, 1) := dk_176 (dk_at dksX0_rowOf_2 15 rfl rfl)
theorem dX0_rowOf_48 : decode cX0_rowOf 48 = .ok (.iload_n 1, 1) := dk_27 (dk_at dksX0_rowOf_2 16 rfl rfl)
theorem dX0_rowOf_49 : decode cX0_rowOf 49 = .ok (.newarray .boolean, 2) := dk_188_4 (dk_at dksX0_rowOf_2 17 rfl rfl)
theorem dX0_rowOf_51 : decode cX0_rowOf 51 = .ok (.areturn, 1) := dk_176 (dk_at dksX0_rowOf_2 19 rfl rfl)
abbrev cX0_set : ByteArray := prog_1_method_20_code
def yX0_set : MethodName := ⟨RX0, "set", "(IIJ)I"⟩
def dkwX0_set_1 : List UInt8 := [4, 172, 58, 5, 42, 25, 5, 180, 0, 133, 182, 0, 79, 172, 58, 5, 42, 16, 254, 182, 0, 79, 172]
abbrev dktX0_set_1 : List UInt8 := dkwX0_set_1 ++ []
def dkwX0_set_0 : List UInt8 := [27, 184, 0, 106, 154, 0, 10, 42, 16, 254, 182, 0, 79, 172, 42, 27, 182, 0, 125, 28, 33, 184, 0, 129]
abbrev dktX0_set_0 : List UInt8 := dkwX0_set_0 ++ dktX0_set_1
theorem dksX0_set_0 : cX0_set.data.toList.drop 0 = dktX0_set_0 := by decide +kernel
theorem dksX0_set_1 : cX0_set.data.toList.drop 24 = dktX0_set_1 := dk_seg dksX0_set_0 24 rfl rfl
theorem dX0_set_0 : decode cX0_set 0 = .ok (.iload_n 1, 1) := dk_27 (dk_at dksX0_set_0 0 rfl rfl)
theorem dX0_set_1 : decode cX0_set 1 = .ok (.invokestatic 106, 3) := dk_184 0 106 (dk_at dksX0_set_0 1 rfl rfl)
theorem dX0_set_4 : decode cX0_set 4 = .ok (.ifCond .ne 10, 3) := dk_154 0 10 (dk_at dksX0_set_0 4 rfl rfl)
theorem dX0_set_7 : decode cX0_set 7 = .ok (.aload_n 0, 1) := dk_42 (dk_at dksX0_set_0 7 rfl rfl)
theorem dX0_set_8 : decode cX0_set 8 = .ok (.bipush (-2), 2) := dk_16 254 (dk_at dksX0_set_0 8 rfl rfl)
theorem dX0_set_10 : decode cX0_set 10 = .ok (.invokevirtual 79, 3) := dk_182 0 79 (dk_at dksX0_set_0 10 rfl rfl)
theorem dX0_set_13 : decode cX0_set 13 = .ok (.ireturn, 1) := dk_172 (dk_at dksX0_set_0 13 rfl rfl)
theorem dX0_set_14 : decode cX0_set 14 = .ok (.aload_n 0, 1) := dk_42 (dk_at dksX0_set_0 14 rfl rfl)
theorem dX0_set_15 : decode cX0_set 15 = .ok (.iload_n 1, 1) := dk_27 (dk_at dksX0_set_0 15 rfl rfl)
theorem dX0_set_16 : decode cX0_set 16 = .ok (.invokevirtual 125, 3) := dk_182 0 125 (dk_at dksX0_set_0 16 rfl rfl)
theorem dX0_set_19 : decode cX0_set 19 = .ok (.iload_n 2, 1) := dk_28 (dk_at dksX0_set_0 19 rfl rfl)
theorem dX0_set_20 : decode cX0_set 20 = .ok (.lload_n 3, 1) := dk_33 (dk_at dksX0_set_0 20 rfl rfl)
theorem dX0_set_21 : decode cX0_set 21 = .ok (.invokestatic 129, 3) := dk_184 0 129 (dk_at dksX0_set_0 21 rfl rfl)
theorem dX0_set_24 : decode cX0_set 24 = .ok (.iconst 1, 1) := dk_4 (dk_at dksX0_set_1 0 rfl rfl)
theorem dX0_set_25 : decode cX0_set 25 = .ok (.ireturn, 1) := dk_172 (dk_at dksX0_set_1 1 rfl rfl)
theorem dX0_set_26 : decode cX0_set 26 = .ok (.astore 5, 2) := dk_58 5 (dk_at dksX0_set_1 2 rfl rfl)
theorem dX0_set_28 : decode cX0_set 28 = .ok (.aload_n 0, 1) := dk_42 (dk_at dksX0_set_1 4 rfl rfl)
theorem dX0_set_29 : decode cX0_set 29 = .ok (.aload 5, 2) := dk_25 5 (dk_at dksX0_set_1 5 rfl rfl)
theorem dX0_set_31 : decode cX0_set 31 = .ok (.getfield 133, 3) := dk_180 0 133 (dk_at dksX0_set_1 7 rfl rfl)
theorem dX0_set_34 : decode cX0_set 34 = .ok (.invokevirtual 79, 3) := dk_182 0 79 (dk_at dksX0_set_1 10 rfl rfl)
theorem dX0_set_37 : decode cX0_set 37 = .ok (.ireturn, 1) := dk_172 (dk_at dksX0_set_1 13 rfl rfl)
theorem dX0_set_38 : decode cX0_set 38 = .ok (.astore 5, 2) := dk_58 5 (dk_at dksX0_set_1 14 rfl rfl)
theorem dX0_set_40 : decode cX0_set 40 = .ok (.aload_n 0, 1) := dk_42 (dk_at dksX0_set_1 16 rfl rfl)
theorem dX0_set_41 : decode cX0_set 41 = .ok (.bipush (-2), 2) := dk_16 254 (dk_at dksX0_set_1 17 rfl rfl)
theorem dX0_set_43 : decode cX0_set 43 = .ok (.invokevirtual 79, 3) := dk_182 0 79 (dk_at dksX0_set_1 19 rfl rfl)
theorem dX0_set_46 : decode cX0_set 46 = .ok (.ireturn, 1) := dk_172 (dk_at dksX0_set_1 22 rfl rfl)
abbrev cX0_rowIn : ByteArray := prog_1_method_19_code
def yX0_rowIn : MethodName := ⟨RX0, "rowIn", "(I)Ljava/lang/Object;"⟩
def dkwX0_rowIn_1 : List UInt8 := [183, 0, 124, 191, 44, 199, 0, 13, 187, 0, 122, 89, 16, 252, 183, 0, 124, 191, 44, 176]
abbrev dktX0_rowIn_1 : List UInt8 := dkwX0_rowIn_1 ++ []
def dkwX0_rowIn_0 : List UInt8 := [42, 180, 0, 65, 27, 50, 180, 0, 114, 77, 44, 193, 0, 120, 153, 0, 13, 187, 0, 122, 89, 16, 253]
abbrev dktX0_rowIn_0 : List UInt8 := dkwX0_rowIn_0 ++ dktX0_rowIn_1
theorem dksX0_rowIn_0 : cX0_rowIn.data.toList.drop 0 = dktX0_rowIn_0 := by decide +kernel
theorem dksX0_rowIn_1 : cX0_rowIn.data.toList.drop 23 = dktX0_rowIn_1 := dk_seg dksX0_rowIn_0 23 rfl rfl
theorem dX0_rowIn_0 : decode cX0_rowIn 0 = .ok (.aload_n 0, 1) := dk_42 (dk_at dksX0_rowIn_0 0 rfl rfl)
theorem dX0_rowIn_1 : decode cX0_rowIn 1 = .ok (.getfield 65, 3) := dk_180 0 65 (dk_at dksX0_rowIn_0 1 rfl rfl)
theorem dX0_rowIn_4 : decode cX0_rowIn 4 = .ok (.iload_n 1, 1) := dk_27 (dk_at dksX0_rowIn_0 4 rfl rfl)
theorem dX0_rowIn_5 : decode cX0_rowIn 5 = .ok (.aaload, 1) := dk_50 (dk_at dksX0_rowIn_0 5 rfl rfl)
theorem dX0_rowIn_6 : decode cX0_rowIn 6 = .ok (.getfield 114, 3) := dk_180 0 114 (dk_at dksX0_rowIn_0 6 rfl rfl)
theorem dX0_rowIn_9 : decode cX0_rowIn 9 = .ok (.astore_n 2, 1) := dk_77 (dk_at dksX0_rowIn_0 9 rfl rfl)
theorem dX0_rowIn_10 : decode cX0_rowIn 10 = .ok (.aload_n 2, 1) := dk_44 (dk_at dksX0_rowIn_0 10 rfl rfl)
theorem dX0_rowIn_11 : decode cX0_rowIn 11 = .ok (.instanceof 120, 3) := dk_193 0 120 (dk_at dksX0_rowIn_0 11 rfl rfl)
theorem dX0_rowIn_14 : decode cX0_rowIn 14 = .ok (.ifCond .eq 13, 3) := dk_153 0 13 (dk_at dksX0_rowIn_0 14 rfl rfl)
theorem dX0_rowIn_17 : decode cX0_rowIn 17 = .ok (.new 122, 3) := dk_187 0 122 (dk_at dksX0_rowIn_0 17 rfl rfl)
theorem dX0_rowIn_20 : decode cX0_rowIn 20 = .ok (.dup, 1) := dk_89 (dk_at dksX0_rowIn_0 20 rfl rfl)
theorem dX0_rowIn_21 : decode cX0_rowIn 21 = .ok (.bipush (-3), 2) := dk_16 253 (dk_at dksX0_rowIn_0 21 rfl rfl)
theorem dX0_rowIn_23 : decode cX0_rowIn 23 = .ok (.invokespecial 124, 3) := dk_183 0 124 (dk_at dksX0_rowIn_1 0 rfl rfl)
theorem dX0_rowIn_26 : decode cX0_rowIn 26 = .ok (.athrow, 1) := dk_191 (dk_at dksX0_rowIn_1 3 rfl rfl)
theorem dX0_rowIn_27 : decode cX0_rowIn 27 = .ok (.aload_n 2, 1) := dk_44 (dk_at dksX0_rowIn_1 4 rfl rfl)
theorem dX0_rowIn_28 : decode cX0_rowIn 28 = .ok (.ifnonnull 13, 3) := dk_199 0 13 (dk_at dksX0_rowIn_1 5 rfl rfl)
theorem dX0_rowIn_31 : decode cX0_rowIn 31 = .ok (.new 122, 3) := dk_187 0 122 (dk_at dksX0_rowIn_1 8 rfl rfl)
theorem dX0_rowIn_34 : decode cX0_rowIn 34 = .ok (.dup, 1) := dk_89 (dk_at dksX0_rowIn_1 11 rfl rfl)
theorem dX0_rowIn_35 : decode cX0_rowIn 35 = .ok (.bipush (-4), 2) := dk_16 252 (dk_at dksX0_rowIn_1 12 rfl rfl)
theorem dX0_rowIn_37 : decode cX0_rowIn 37 = .ok (.invokespecial 124, 3) := dk_183 0 124 (dk_at dksX0_rowIn_1 14 rfl rfl)
theorem dX0_rowIn_40 : decode cX0_rowIn 40 = .ok (.athrow, 1) := dk_191 (dk_at dksX0_rowIn_1 17 rfl rfl)
theorem dX0_rowIn_41 : decode cX0_rowIn 41 = .ok (.aload_n 2, 1) := dk_44 (dk_at dksX0_rowIn_1 18 rfl rfl)
theorem dX0_rowIn_42 : decode cX0_rowIn 42 = .ok (.areturn, 1) := dk_176 (dk_at dksX0_rowIn_1 19 rfl rfl)
abbrev cX0_puts : ByteArray := prog_1_method_17_code
def yX0_puts : MethodName := ⟨RX0, "puts", "(Ljava/lang/Object;IJ)V"⟩
def dkwX0_puts_4 : List UInt8 := [192, 0, 104, 27, 32, 9, 148, 153, 0, 7, 4, 167, 0, 4, 3, 84, 177]
abbrev dktX0_puts_4 : List UInt8 := dkwX0_puts_4 ++ []
def dkwX0_puts_3 : List UInt8 := [42, 192, 0, 97, 27, 32, 136, 79, 167, 0, 30, 42, 192, 0, 98, 27, 32, 80, 167, 0, 20, 42]
abbrev dktX0_puts_3 : List UInt8 := dkwX0_puts_3 ++ dktX0_puts_4
def dkwX0_puts_2 : List UInt8 := [42, 192, 0, 93, 27, 32, 136, 145, 84, 167, 0, 53, 42, 192, 0, 95, 27, 32, 136, 147, 86, 167, 0, 41]
abbrev dktX0_puts_2 : List UInt8 := dkwX0_puts_2 ++ dktX0_puts_3
def dkwX0_puts_1 : List UInt8 := [170, 0, 0, 0, 0, 0, 0, 77, 0, 0, 0, 0, 0, 0, 0, 3, 0, 0, 0, 32, 0, 0, 0, 44, 0, 0, 0, 56, 0, 0, 0, 67]
abbrev dktX0_puts_1 : List UInt8 := dkwX0_puts_1 ++ dktX0_puts_2
def dkwX0_puts_0 : List UInt8 := [42, 184, 0, 100]
abbrev dktX0_puts_0 : List UInt8 := dkwX0_puts_0 ++ dktX0_puts_1
theorem dksX0_puts_0 : cX0_puts.data.toList.drop 0 = dktX0_puts_0 := by decide +kernel
theorem dksX0_puts_1 : cX0_puts.data.toList.drop 4 = dktX0_puts_1 := dk_seg dksX0_puts_0 4 rfl rfl
theorem dksX0_puts_2 : cX0_puts.data.toList.drop 36 = dktX0_puts_2 := dk_seg dksX0_puts_1 32 rfl rfl
theorem dksX0_puts_3 : cX0_puts.data.toList.drop 60 = dktX0_puts_3 := dk_seg dksX0_puts_2 24 rfl rfl
theorem dksX0_puts_4 : cX0_puts.data.toList.drop 82 = dktX0_puts_4 := dk_seg dksX0_puts_3 22 rfl rfl
theorem dX0_puts_0 : decode cX0_puts 0 = .ok (.aload_n 0, 1) := dk_42 (dk_at dksX0_puts_0 0 rfl rfl)
theorem dX0_puts_1 : decode cX0_puts 1 = .ok (.invokestatic 100, 3) := dk_184 0 100 (dk_at dksX0_puts_0 1 rfl rfl)
theorem dX0_puts_4 : decode cX0_puts 4 = .ok (.tableswitch 77 0 3 #[32, 44, 56, 67], 32) := by decide +kernel
theorem dX0_puts_36 : decode cX0_puts 36 = .ok (.aload_n 0, 1) := dk_42 (dk_at dksX0_puts_2 0 rfl rfl)
theorem dX0_puts_37 : decode cX0_puts 37 = .ok (.checkcast 93, 3) := dk_192 0 93 (dk_at dksX0_puts_2 1 rfl rfl)
theorem dX0_puts_40 : decode cX0_puts 40 = .ok (.iload_n 1, 1) := dk_27 (dk_at dksX0_puts_2 4 rfl rfl)
theorem dX0_puts_41 : decode cX0_puts 41 = .ok (.lload_n 2, 1) := dk_32 (dk_at dksX0_puts_2 5 rfl rfl)
theorem dX0_puts_42 : decode cX0_puts 42 = .ok (.l2i, 1) := dk_136 (dk_at dksX0_puts_2 6 rfl rfl)
theorem dX0_puts_43 : decode cX0_puts 43 = .ok (.i2b, 1) := dk_145 (dk_at dksX0_puts_2 7 rfl rfl)
theorem dX0_puts_44 : decode cX0_puts 44 = .ok (.bastore, 1) := dk_84 (dk_at dksX0_puts_2 8 rfl rfl)
theorem dX0_puts_45 : decode cX0_puts 45 = .ok (.goto 53, 3) := dk_167 0 53 (dk_at dksX0_puts_2 9 rfl rfl)
theorem dX0_puts_48 : decode cX0_puts 48 = .ok (.aload_n 0, 1) := dk_42 (dk_at dksX0_puts_2 12 rfl rfl)
theorem dX0_puts_49 : decode cX0_puts 49 = .ok (.checkcast 95, 3) := dk_192 0 95 (dk_at dksX0_puts_2 13 rfl rfl)
theorem dX0_puts_52 : decode cX0_puts 52 = .ok (.iload_n 1, 1) := dk_27 (dk_at dksX0_puts_2 16 rfl rfl)
theorem dX0_puts_53 : decode cX0_puts 53 = .ok (.lload_n 2, 1) := dk_32 (dk_at dksX0_puts_2 17 rfl rfl)
theorem dX0_puts_54 : decode cX0_puts 54 = .ok (.l2i, 1) := dk_136 (dk_at dksX0_puts_2 18 rfl rfl)
theorem dX0_puts_55 : decode cX0_puts 55 = .ok (.i2s, 1) := dk_147 (dk_at dksX0_puts_2 19 rfl rfl)
theorem dX0_puts_56 : decode cX0_puts 56 = .ok (.sastore, 1) := dk_86 (dk_at dksX0_puts_2 20 rfl rfl)
theorem dX0_puts_57 : decode cX0_puts 57 = .ok (.goto 41, 3) := dk_167 0 41 (dk_at dksX0_puts_2 21 rfl rfl)
theorem dX0_puts_60 : decode cX0_puts 60 = .ok (.aload_n 0, 1) := dk_42 (dk_at dksX0_puts_3 0 rfl rfl)
theorem dX0_puts_61 : decode cX0_puts 61 = .ok (.checkcast 97, 3) := dk_192 0 97 (dk_at dksX0_puts_3 1 rfl rfl)
theorem dX0_puts_64 : decode cX0_puts 64 = .ok (.iload_n 1, 1) := dk_27 (dk_at dksX0_puts_3 4 rfl rfl)
theorem dX0_puts_65 : decode cX0_puts 65 = .ok (.lload_n 2, 1) := dk_32 (dk_at dksX0_puts_3 5 rfl rfl)
theorem dX0_puts_66 : decode cX0_puts 66 = .ok (.l2i, 1) := dk_136 (dk_at dksX0_puts_3 6 rfl rfl)
theorem dX0_puts_67 : decode cX0_puts 67 = .ok (.iastore, 1) := dk_79 (dk_at dksX0_puts_3 7 rfl rfl)
theorem dX0_puts_68 : decode cX0_puts 68 = .ok (.goto 30, 3) := dk_167 0 30 (dk_at dksX0_puts_3 8 rfl rfl)
theorem dX0_puts_71 : decode cX0_puts 71 = .ok (.aload_n 0, 1) := dk_42 (dk_at dksX0_puts_3 11 rfl rfl)
theorem dX0_puts_72 : decode cX0_puts 72 = .ok (.checkcast 98, 3) := dk_192 0 98 (dk_at dksX0_puts_3 12 rfl rfl)
theorem dX0_puts_75 : decode cX0_puts 75 = .ok (.iload_n 1, 1) := dk_27 (dk_at dksX0_puts_3 15 rfl rfl)
theorem dX0_puts_76 : decode cX0_puts 76 = .ok (.lload_n 2, 1) := dk_32 (dk_at dksX0_puts_3 16 rfl rfl)
theorem dX0_puts_77 : decode cX0_puts 77 = .ok (.lastore, 1) := dk_80 (dk_at dksX0_puts_3 17 rfl rfl)
theorem dX0_puts_78 : decode cX0_puts 78 = .ok (.goto 20, 3) := dk_167 0 20 (dk_at dksX0_puts_3 18 rfl rfl)
theorem dX0_puts_81 : decode cX0_puts 81 = .ok (.aload_n 0, 1) := dk_42 (dk_at dksX0_puts_3 21 rfl rfl)
theorem dX0_puts_82 : decode cX0_puts 82 = .ok (.checkcast 104, 3) := dk_192 0 104 (dk_at dksX0_puts_4 0 rfl rfl)
theorem dX0_puts_85 : decode cX0_puts 85 = .ok (.iload_n 1, 1) := dk_27 (dk_at dksX0_puts_4 3 rfl rfl)
theorem dX0_puts_86 : decode cX0_puts 86 = .ok (.lload_n 2, 1) := dk_32 (dk_at dksX0_puts_4 4 rfl rfl)
theorem dX0_puts_87 : decode cX0_puts 87 = .ok (.lconst 0, 1) := dk_9 (dk_at dksX0_puts_4 5 rfl rfl)
theorem dX0_puts_88 : decode cX0_puts 88 = .ok (.lcmp, 1) := dk_148 (dk_at dksX0_puts_4 6 rfl rfl)
theorem dX0_puts_89 : decode cX0_puts 89 = .ok (.ifCond .eq 7, 3) := dk_153 0 7 (dk_at dksX0_puts_4 7 rfl rfl)
theorem dX0_puts_92 : decode cX0_puts 92 = .ok (.iconst 1, 1) := dk_4 (dk_at dksX0_puts_4 10 rfl rfl)
theorem dX0_puts_93 : decode cX0_puts 93 = .ok (.goto 4, 3) := dk_167 0 4 (dk_at dksX0_puts_4 11 rfl rfl)
theorem dX0_puts_96 : decode cX0_puts 96 = .ok (.iconst 0, 1) := dk_3 (dk_at dksX0_puts_4 14 rfl rfl)
theorem dX0_puts_97 : decode cX0_puts 97 = .ok (.bastore, 1) := dk_84 (dk_at dksX0_puts_4 15 rfl rfl)
theorem dX0_puts_98 : decode cX0_puts 98 = .ok (.return_, 1) := dk_177 (dk_at dksX0_puts_4 16 rfl rfl)
abbrev cX0_sortOf : ByteArray := prog_1_method_15_code
def yX0_sortOf : MethodName := ⟨RX0, "sortOf", "(Ljava/lang/Object;)I"⟩
def dkwX0_sortOf_1 : List UInt8 := [153, 0, 5, 5, 172, 42, 193, 0, 98, 153, 0, 7, 6, 167, 0, 4, 7, 172]
abbrev dktX0_sortOf_1 : List UInt8 := dkwX0_sortOf_1 ++ []
def dkwX0_sortOf_0 : List UInt8 := [42, 193, 0, 93, 153, 0, 5, 3, 172, 42, 193, 0, 95, 153, 0, 5, 4, 172, 42, 193, 0, 97]
abbrev dktX0_sortOf_0 : List UInt8 := dkwX0_sortOf_0 ++ dktX0_sortOf_1
theorem dksX0_sortOf_0 : cX0_sortOf.data.toList.drop 0 = dktX0_sortOf_0 := by decide +kernel
theorem dksX0_sortOf_1 : cX0_sortOf.data.toList.drop 22 = dktX0_sortOf_1 := dk_seg dksX0_sortOf_0 22 rfl rfl
theorem dX0_sortOf_0 : decode cX0_sortOf 0 = .ok (.aload_n 0, 1) := dk_42 (dk_at dksX0_sortOf_0 0 rfl rfl)
theorem dX0_sortOf_1 : decode cX0_sortOf 1 = .ok (.instanceof 93, 3) := dk_193 0 93 (dk_at dksX0_sortOf_0 1 rfl rfl)
theorem dX0_sortOf_4 : decode cX0_sortOf 4 = .ok (.ifCond .eq 5, 3) := dk_153 0 5 (dk_at dksX0_sortOf_0 4 rfl rfl)
theorem dX0_sortOf_7 : decode cX0_sortOf 7 = .ok (.iconst 0, 1) := dk_3 (dk_at dksX0_sortOf_0 7 rfl rfl)
theorem dX0_sortOf_8 : decode cX0_sortOf 8 = .ok (.ireturn, 1) := dk_172 (dk_at dksX0_sortOf_0 8 rfl rfl)
theorem dX0_sortOf_9 : decode cX0_sortOf 9 = .ok (.aload_n 0, 1) := dk_42 (dk_at dksX0_sortOf_0 9 rfl rfl)
theorem dX0_sortOf_10 : decode cX0_sortOf 10 = .ok (.instanceof 95, 3) := dk_193 0 95 (dk_at dksX0_sortOf_0 10 rfl rfl)
theorem dX0_sortOf_13 : decode cX0_sortOf 13 = .ok (.ifCond .eq 5, 3) := dk_153 0 5 (dk_at dksX0_sortOf_0 13 rfl rfl)
theorem dX0_sortOf_16 : decode cX0_sortOf 16 = .ok (.iconst 1, 1) := dk_4 (dk_at dksX0_sortOf_0 16 rfl rfl)
theorem dX0_sortOf_17 : decode cX0_sortOf 17 = .ok (.ireturn, 1) := dk_172 (dk_at dksX0_sortOf_0 17 rfl rfl)
theorem dX0_sortOf_18 : decode cX0_sortOf 18 = .ok (.aload_n 0, 1) := dk_42 (dk_at dksX0_sortOf_0 18 rfl rfl)
theorem dX0_sortOf_19 : decode cX0_sortOf 19 = .ok (.instanceof 97, 3) := dk_193 0 97 (dk_at dksX0_sortOf_0 19 rfl rfl)
theorem dX0_sortOf_22 : decode cX0_sortOf 22 = .ok (.ifCond .eq 5, 3) := dk_153 0 5 (dk_at dksX0_sortOf_1 0 rfl rfl)
theorem dX0_sortOf_25 : decode cX0_sortOf 25 = .ok (.iconst 2, 1) := dk_5 (dk_at dksX0_sortOf_1 3 rfl rfl)
theorem dX0_sortOf_26 : decode cX0_sortOf 26 = .ok (.ireturn, 1) := dk_172 (dk_at dksX0_sortOf_1 4 rfl rfl)
theorem dX0_sortOf_27 : decode cX0_sortOf 27 = .ok (.aload_n 0, 1) := dk_42 (dk_at dksX0_sortOf_1 5 rfl rfl)
theorem dX0_sortOf_28 : decode cX0_sortOf 28 = .ok (.instanceof 98, 3) := dk_193 0 98 (dk_at dksX0_sortOf_1 6 rfl rfl)
theorem dX0_sortOf_31 : decode cX0_sortOf 31 = .ok (.ifCond .eq 7, 3) := dk_153 0 7 (dk_at dksX0_sortOf_1 9 rfl rfl)
theorem dX0_sortOf_34 : decode cX0_sortOf 34 = .ok (.iconst 3, 1) := dk_6 (dk_at dksX0_sortOf_1 12 rfl rfl)
theorem dX0_sortOf_35 : decode cX0_sortOf 35 = .ok (.goto 4, 3) := dk_167 0 4 (dk_at dksX0_sortOf_1 13 rfl rfl)
theorem dX0_sortOf_38 : decode cX0_sortOf 38 = .ok (.iconst 4, 1) := dk_7 (dk_at dksX0_sortOf_1 16 rfl rfl)
theorem dX0_sortOf_39 : decode cX0_sortOf 39 = .ok (.ireturn, 1) := dk_172 (dk_at dksX0_sortOf_1 17 rfl rfl)
abbrev cX0_copy : ByteArray := prog_1_method_21_code
def yX0_copy : MethodName := ⟨RX0, "copy", "(IIIII)I"⟩
def dkwX0_copy_4 : List UInt8 := [16, 253, 182, 0, 79, 172, 58, 8, 42, 16, 254, 182, 0, 79, 172]
abbrev dktX0_copy_4 : List UInt8 := dkwX0_copy_4 ++ []
def dkwX0_copy_3 : List UInt8 := [25, 7, 21, 4, 21, 5, 184, 0, 138, 21, 5, 172, 58, 8, 42, 16, 252, 182, 0, 79, 172, 58, 8, 42]
abbrev dktX0_copy_3 : List UInt8 := dkwX0_copy_3 ++ dktX0_copy_4
def dkwX0_copy_2 : List UInt8 := [193, 0, 120, 154, 0, 11, 25, 7, 193, 0, 120, 153, 0, 10, 42, 16, 253, 182, 0, 79, 172, 25, 6, 29]
abbrev dktX0_copy_2 : List UInt8 := dkwX0_copy_2 ++ dktX0_copy_3
def dkwX0_copy_1 : List UInt8 := [180, 0, 65, 27, 50, 180, 0, 114, 58, 6, 42, 180, 0, 65, 28, 50, 180, 0, 114, 58, 7, 25, 6]
abbrev dktX0_copy_1 : List UInt8 := dkwX0_copy_1 ++ dktX0_copy_2
def dkwX0_copy_0 : List UInt8 := [27, 184, 0, 106, 153, 0, 10, 28, 184, 0, 106, 154, 0, 10, 42, 16, 254, 182, 0, 79, 172, 42]
abbrev dktX0_copy_0 : List UInt8 := dkwX0_copy_0 ++ dktX0_copy_1
theorem dksX0_copy_0 : cX0_copy.data.toList.drop 0 = dktX0_copy_0 := by decide +kernel
theorem dksX0_copy_1 : cX0_copy.data.toList.drop 22 = dktX0_copy_1 := dk_seg dksX0_copy_0 22 rfl rfl
theorem dksX0_copy_2 : cX0_copy.data.toList.drop 45 = dktX0_copy_2 := dk_seg dksX0_copy_1 23 rfl rfl
theorem dksX0_copy_3 : cX0_copy.data.toList.drop 69 = dktX0_copy_3 := dk_seg dksX0_copy_2 24 rfl rfl
theorem dksX0_copy_4 : cX0_copy.data.toList.drop 93 = dktX0_copy_4 := dk_seg dksX0_copy_3 24 rfl rfl
theorem dX0_copy_0 : decode cX0_copy 0 = .ok (.iload_n 1, 1) := dk_27 (dk_at dksX0_copy_0 0 rfl rfl)
theorem dX0_copy_1 : decode cX0_copy 1 = .ok (.invokestatic 106, 3) := dk_184 0 106 (dk_at dksX0_copy_0 1 rfl rfl)
theorem dX0_copy_4 : decode cX0_copy 4 = .ok (.ifCond .eq 10, 3) := dk_153 0 10 (dk_at dksX0_copy_0 4 rfl rfl)
theorem dX0_copy_7 : decode cX0_copy 7 = .ok (.iload_n 2, 1) := dk_28 (dk_at dksX0_copy_0 7 rfl rfl)
theorem dX0_copy_8 : decode cX0_copy 8 = .ok (.invokestatic 106, 3) := dk_184 0 106 (dk_at dksX0_copy_0 8 rfl rfl)
theorem dX0_copy_11 : decode cX0_copy 11 = .ok (.ifCond .ne 10, 3) := dk_154 0 10 (dk_at dksX0_copy_0 11 rfl rfl)
theorem dX0_copy_14 : decode cX0_copy 14 = .ok (.aload_n 0, 1) := dk_42 (dk_at dksX0_copy_0 14 rfl rfl)
theorem dX0_copy_15 : decode cX0_copy 15 = .ok (.bipush (-2), 2) := dk_16 254 (dk_at dksX0_copy_0 15 rfl rfl)
theorem dX0_copy_17 : decode cX0_copy 17 = .ok (.invokevirtual 79, 3) := dk_182 0 79 (dk_at dksX0_copy_0 17 rfl rfl)
theorem dX0_copy_20 : decode cX0_copy 20 = .ok (.ireturn, 1) := dk_172 (dk_at dksX0_copy_0 20 rfl rfl)
theorem dX0_copy_21 : decode cX0_copy 21 = .ok (.aload_n 0, 1) := dk_42 (dk_at dksX0_copy_0 21 rfl rfl)
theorem dX0_copy_22 : decode cX0_copy 22 = .ok (.getfield 65, 3) := dk_180 0 65 (dk_at dksX0_copy_1 0 rfl rfl)
theorem dX0_copy_25 : decode cX0_copy 25 = .ok (.iload_n 1, 1) := dk_27 (dk_at dksX0_copy_1 3 rfl rfl)
theorem dX0_copy_26 : decode cX0_copy 26 = .ok (.aaload, 1) := dk_50 (dk_at dksX0_copy_1 4 rfl rfl)
theorem dX0_copy_27 : decode cX0_copy 27 = .ok (.getfield 114, 3) := dk_180 0 114 (dk_at dksX0_copy_1 5 rfl rfl)
theorem dX0_copy_30 : decode cX0_copy 30 = .ok (.astore 6, 2) := dk_58 6 (dk_at dksX0_copy_1 8 rfl rfl)
theorem dX0_copy_32 : decode cX0_copy 32 = .ok (.aload_n 0, 1) := dk_42 (dk_at dksX0_copy_1 10 rfl rfl)
theorem dX0_copy_33 : decode cX0_copy 33 = .ok (.getfield 65, 3) := dk_180 0 65 (dk_at dksX0_copy_1 11 rfl rfl)
theorem dX0_copy_36 : decode cX0_copy 36 = .ok (.iload_n 2, 1) := dk_28 (dk_at dksX0_copy_1 14 rfl rfl)
theorem dX0_copy_37 : decode cX0_copy 37 = .ok (.aaload, 1) := dk_50 (dk_at dksX0_copy_1 15 rfl rfl)
theorem dX0_copy_38 : decode cX0_copy 38 = .ok (.getfield 114, 3) := dk_180 0 114 (dk_at dksX0_copy_1 16 rfl rfl)
theorem dX0_copy_41 : decode cX0_copy 41 = .ok (.astore 7, 2) := dk_58 7 (dk_at dksX0_copy_1 19 rfl rfl)
theorem dX0_copy_43 : decode cX0_copy 43 = .ok (.aload 6, 2) := dk_25 6 (dk_at dksX0_copy_1 21 rfl rfl)
theorem dX0_copy_45 : decode cX0_copy 45 = .ok (.instanceof 120, 3) := dk_193 0 120 (dk_at dksX0_copy_2 0 rfl rfl)
theorem dX0_copy_48 : decode cX0_copy 48 = .ok (.ifCond .ne 11, 3) := dk_154 0 11 (dk_at dksX0_copy_2 3 rfl rfl)
theorem dX0_copy_51 : decode cX0_copy 51 = .ok (.aload 7, 2) := dk_25 7 (dk_at dksX0_copy_2 6 rfl rfl)
theorem dX0_copy_53 : decode cX0_copy 53 = .ok (.instanceof 120, 3) := dk_193 0 120 (dk_at dksX0_copy_2 8 rfl rfl)
theorem dX0_copy_56 : decode cX0_copy 56 = .ok (.ifCond .eq 10, 3) := dk_153 0 10 (dk_at dksX0_copy_2 11 rfl rfl)
theorem dX0_copy_59 : decode cX0_copy 59 = .ok (.aload_n 0, 1) := dk_42 (dk_at dksX0_copy_2 14 rfl rfl)
theorem dX0_copy_60 : decode cX0_copy 60 = .ok (.bipush (-3), 2) := dk_16 253 (dk_at dksX0_copy_2 15 rfl rfl)
theorem dX0_copy_62 : decode cX0_copy 62 = .ok (.invokevirtual 79, 3) := dk_182 0 79 (dk_at dksX0_copy_2 17 rfl rfl)
theorem dX0_copy_65 : decode cX0_copy 65 = .ok (.ireturn, 1) := dk_172 (dk_at dksX0_copy_2 20 rfl rfl)
theorem dX0_copy_66 : decode cX0_copy 66 = .ok (.aload 6, 2) := dk_25 6 (dk_at dksX0_copy_2 21 rfl rfl)
theorem dX0_copy_68 : decode cX0_copy 68 = .ok (.iload_n 3, 1) := dk_29 (dk_at dksX0_copy_2 23 rfl rfl)
theorem dX0_copy_69 : decode cX0_copy 69 = .ok (.aload 7, 2) := dk_25 7 (dk_at dksX0_copy_3 0 rfl rfl)
theorem dX0_copy_71 : decode cX0_copy 71 = .ok (.iload 4, 2) := dk_21 4 (dk_at dksX0_copy_3 2 rfl rfl)
theorem dX0_copy_73 : decode cX0_copy 73 = .ok (.iload 5, 2) := dk_21 5 (dk_at dksX0_copy_3 4 rfl rfl)
theorem dX0_copy_75 : decode cX0_copy 75 = .ok (.invokestatic 138, 3) := dk_184 0 138 (dk_at dksX0_copy_3 6 rfl rfl)
theorem dX0_copy_78 : decode cX0_copy 78 = .ok (.iload 5, 2) := dk_21 5 (dk_at dksX0_copy_3 9 rfl rfl)
theorem dX0_copy_80 : decode cX0_copy 80 = .ok (.ireturn, 1) := dk_172 (dk_at dksX0_copy_3 11 rfl rfl)
theorem dX0_copy_81 : decode cX0_copy 81 = .ok (.astore 8, 2) := dk_58 8 (dk_at dksX0_copy_3 12 rfl rfl)
theorem dX0_copy_83 : decode cX0_copy 83 = .ok (.aload_n 0, 1) := dk_42 (dk_at dksX0_copy_3 14 rfl rfl)
theorem dX0_copy_84 : decode cX0_copy 84 = .ok (.bipush (-4), 2) := dk_16 252 (dk_at dksX0_copy_3 15 rfl rfl)
theorem dX0_copy_86 : decode cX0_copy 86 = .ok (.invokevirtual 79, 3) := dk_182 0 79 (dk_at dksX0_copy_3 17 rfl rfl)
theorem dX0_copy_89 : decode cX0_copy 89 = .ok (.ireturn, 1) := dk_172 (dk_at dksX0_copy_3 20 rfl rfl)
theorem dX0_copy_90 : decode cX0_copy 90 = .ok (.astore 8, 2) := dk_58 8 (dk_at dksX0_copy_3 21 rfl rfl)
theorem dX0_copy_92 : decode cX0_copy 92 = .ok (.aload_n 0, 1) := dk_42 (dk_at dksX0_copy_3 23 rfl rfl)
theorem dX0_copy_93 : decode cX0_copy 93 = .ok (.bipush (-3), 2) := dk_16 253 (dk_at dksX0_copy_4 0 rfl rfl)
theorem dX0_copy_95 : decode cX0_copy 95 = .ok (.invokevirtual 79, 3) := dk_182 0 79 (dk_at dksX0_copy_4 2 rfl rfl)
theorem dX0_copy_98 : decode cX0_copy 98 = .ok (.ireturn, 1) := dk_172 (dk_at dksX0_copy_4 5 rfl rfl)
theorem dX0_copy_99 : decode cX0_copy 99 = .ok (.astore 8, 2) := dk_58 8 (dk_at dksX0_copy_4 6 rfl rfl)
theorem dX0_copy_101 : decode cX0_copy 101 = .ok (.aload_n 0, 1) := dk_42 (dk_at dksX0_copy_4 8 rfl rfl)
theorem dX0_copy_102 : decode cX0_copy 102 = .ok (.bipush (-2), 2) := dk_16 254 (dk_at dksX0_copy_4 9 rfl rfl)
theorem dX0_copy_104 : decode cX0_copy 104 = .ok (.invokevirtual 79, 3) := dk_182 0 79 (dk_at dksX0_copy_4 11 rfl rfl)
theorem dX0_copy_107 : decode cX0_copy 107 = .ok (.ireturn, 1) := dk_172 (dk_at dksX0_copy_4 14 rfl rfl)
abbrev cX0_element : ByteArray := prog_1_method_22_code
def yX0_element : MethodName := ⟨RX0, "element", "(II)J"⟩
def dkwX0_element_1 : List UInt8 := [173]
abbrev dktX0_element_1 : List UInt8 := dkwX0_element_1 ++ []
def dkwX0_element_0 : List UInt8 := [27, 184, 0, 106, 154, 0, 5, 9, 173, 42, 27, 182, 0, 125, 28, 184, 0, 150, 173, 78, 9, 173, 78, 9]
abbrev dktX0_element_0 : List UInt8 := dkwX0_element_0 ++ dktX0_element_1
theorem dksX0_element_0 : cX0_element.data.toList.drop 0 = dktX0_element_0 := by decide +kernel
theorem dksX0_element_1 : cX0_element.data.toList.drop 24 = dktX0_element_1 := dk_seg dksX0_element_0 24 rfl rfl
theorem dX0_element_0 : decode cX0_element 0 = .ok (.iload_n 1, 1) := dk_27 (dk_at dksX0_element_0 0 rfl rfl)
theorem dX0_element_1 : decode cX0_element 1 = .ok (.invokestatic 106, 3) := dk_184 0 106 (dk_at dksX0_element_0 1 rfl rfl)
theorem dX0_element_4 : decode cX0_element 4 = .ok (.ifCond .ne 5, 3) := dk_154 0 5 (dk_at dksX0_element_0 4 rfl rfl)
theorem dX0_element_7 : decode cX0_element 7 = .ok (.lconst 0, 1) := dk_9 (dk_at dksX0_element_0 7 rfl rfl)
theorem dX0_element_8 : decode cX0_element 8 = .ok (.lreturn, 1) := dk_173 (dk_at dksX0_element_0 8 rfl rfl)
theorem dX0_element_9 : decode cX0_element 9 = .ok (.aload_n 0, 1) := dk_42 (dk_at dksX0_element_0 9 rfl rfl)
theorem dX0_element_10 : decode cX0_element 10 = .ok (.iload_n 1, 1) := dk_27 (dk_at dksX0_element_0 10 rfl rfl)
theorem dX0_element_11 : decode cX0_element 11 = .ok (.invokevirtual 125, 3) := dk_182 0 125 (dk_at dksX0_element_0 11 rfl rfl)
theorem dX0_element_14 : decode cX0_element 14 = .ok (.iload_n 2, 1) := dk_28 (dk_at dksX0_element_0 14 rfl rfl)
theorem dX0_element_15 : decode cX0_element 15 = .ok (.invokestatic 150, 3) := dk_184 0 150 (dk_at dksX0_element_0 15 rfl rfl)
theorem dX0_element_18 : decode cX0_element 18 = .ok (.lreturn, 1) := dk_173 (dk_at dksX0_element_0 18 rfl rfl)
theorem dX0_element_19 : decode cX0_element 19 = .ok (.astore_n 3, 1) := dk_78 (dk_at dksX0_element_0 19 rfl rfl)
theorem dX0_element_20 : decode cX0_element 20 = .ok (.lconst 0, 1) := dk_9 (dk_at dksX0_element_0 20 rfl rfl)
theorem dX0_element_21 : decode cX0_element 21 = .ok (.lreturn, 1) := dk_173 (dk_at dksX0_element_0 21 rfl rfl)
theorem dX0_element_22 : decode cX0_element 22 = .ok (.astore_n 3, 1) := dk_78 (dk_at dksX0_element_0 22 rfl rfl)
theorem dX0_element_23 : decode cX0_element 23 = .ok (.lconst 0, 1) := dk_9 (dk_at dksX0_element_0 23 rfl rfl)
theorem dX0_element_24 : decode cX0_element 24 = .ok (.lreturn, 1) := dk_173 (dk_at dksX0_element_1 0 rfl rfl)
abbrev cX0_elementOf : ByteArray := prog_1_method_16_code
def yX0_elementOf : MethodName := ⟨RX0, "elementOf", "(Ljava/lang/Object;I)J"⟩
def dkwX0_elementOf_3 : List UInt8 := [42, 192, 0, 98, 27, 47, 173, 42, 192, 0, 104, 27, 51, 153, 0, 7, 10, 167, 0, 4, 9, 173]
abbrev dktX0_elementOf_3 : List UInt8 := dkwX0_elementOf_3 ++ []
def dkwX0_elementOf_2 : List UInt8 := [42, 192, 0, 93, 27, 51, 133, 173, 42, 192, 0, 95, 27, 53, 133, 173, 42, 192, 0, 97, 27, 46, 133, 173]
abbrev dktX0_elementOf_2 : List UInt8 := dkwX0_elementOf_2 ++ dktX0_elementOf_3
def dkwX0_elementOf_1 : List UInt8 := [170, 0, 0, 0, 0, 0, 0, 63, 0, 0, 0, 0, 0, 0, 0, 3, 0, 0, 0, 32, 0, 0, 0, 40, 0, 0, 0, 48, 0, 0, 0, 56]
abbrev dktX0_elementOf_1 : List UInt8 := dkwX0_elementOf_1 ++ dktX0_elementOf_2
def dkwX0_elementOf_0 : List UInt8 := [42, 184, 0, 100]
abbrev dktX0_elementOf_0 : List UInt8 := dkwX0_elementOf_0 ++ dktX0_elementOf_1
theorem dksX0_elementOf_0 : cX0_elementOf.data.toList.drop 0 = dktX0_elementOf_0 := by decide +kernel
theorem dksX0_elementOf_1 : cX0_elementOf.data.toList.drop 4 = dktX0_elementOf_1 := dk_seg dksX0_elementOf_0 4 rfl rfl
theorem dksX0_elementOf_2 : cX0_elementOf.data.toList.drop 36 = dktX0_elementOf_2 := dk_seg dksX0_elementOf_1 32 rfl rfl
theorem dksX0_elementOf_3 : cX0_elementOf.data.toList.drop 60 = dktX0_elementOf_3 := dk_seg dksX0_elementOf_2 24 rfl rfl
theorem dX0_elementOf_0 : decode cX0_elementOf 0 = .ok (.aload_n 0, 1) := dk_42 (dk_at dksX0_elementOf_0 0 rfl rfl)
theorem dX0_elementOf_1 : decode cX0_elementOf 1 = .ok (.invokestatic 100, 3) := dk_184 0 100 (dk_at dksX0_elementOf_0 1 rfl rfl)
theorem dX0_elementOf_4 : decode cX0_elementOf 4 = .ok (.tableswitch 63 0 3 #[32, 40, 48, 56], 32) := by decide +kernel
theorem dX0_elementOf_36 : decode cX0_elementOf 36 = .ok (.aload_n 0, 1) := dk_42 (dk_at dksX0_elementOf_2 0 rfl rfl)
theorem dX0_elementOf_37 : decode cX0_elementOf 37 = .ok (.checkcast 93, 3) := dk_192 0 93 (dk_at dksX0_elementOf_2 1 rfl rfl)
theorem dX0_elementOf_40 : decode cX0_elementOf 40 = .ok (.iload_n 1, 1) := dk_27 (dk_at dksX0_elementOf_2 4 rfl rfl)
theorem dX0_elementOf_41 : decode cX0_elementOf 41 = .ok (.baload, 1) := dk_51 (dk_at dksX0_elementOf_2 5 rfl rfl)
theorem dX0_elementOf_42 : decode cX0_elementOf 42 = .ok (.i2l, 1) := dk_133 (dk_at dksX0_elementOf_2 6 rfl rfl)
theorem dX0_elementOf_43 : decode cX0_elementOf 43 = .ok (.lreturn, 1) := dk_173 (dk_at dksX0_elementOf_2 7 rfl rfl)
theorem dX0_elementOf_44 : decode cX0_elementOf 44 = .ok (.aload_n 0, 1) := dk_42 (dk_at dksX0_elementOf_2 8 rfl rfl)
theorem dX0_elementOf_45 : decode cX0_elementOf 45 = .ok (.checkcast 95, 3) := dk_192 0 95 (dk_at dksX0_elementOf_2 9 rfl rfl)
theorem dX0_elementOf_48 : decode cX0_elementOf 48 = .ok (.iload_n 1, 1) := dk_27 (dk_at dksX0_elementOf_2 12 rfl rfl)
theorem dX0_elementOf_49 : decode cX0_elementOf 49 = .ok (.saload, 1) := dk_53 (dk_at dksX0_elementOf_2 13 rfl rfl)
theorem dX0_elementOf_50 : decode cX0_elementOf 50 = .ok (.i2l, 1) := dk_133 (dk_at dksX0_elementOf_2 14 rfl rfl)
theorem dX0_elementOf_51 : decode cX0_elementOf 51 = .ok (.lreturn, 1) := dk_173 (dk_at dksX0_elementOf_2 15 rfl rfl)
theorem dX0_elementOf_52 : decode cX0_elementOf 52 = .ok (.aload_n 0, 1) := dk_42 (dk_at dksX0_elementOf_2 16 rfl rfl)
theorem dX0_elementOf_53 : decode cX0_elementOf 53 = .ok (.checkcast 97, 3) := dk_192 0 97 (dk_at dksX0_elementOf_2 17 rfl rfl)
theorem dX0_elementOf_56 : decode cX0_elementOf 56 = .ok (.iload_n 1, 1) := dk_27 (dk_at dksX0_elementOf_2 20 rfl rfl)
theorem dX0_elementOf_57 : decode cX0_elementOf 57 = .ok (.iaload, 1) := dk_46 (dk_at dksX0_elementOf_2 21 rfl rfl)
theorem dX0_elementOf_58 : decode cX0_elementOf 58 = .ok (.i2l, 1) := dk_133 (dk_at dksX0_elementOf_2 22 rfl rfl)
theorem dX0_elementOf_59 : decode cX0_elementOf 59 = .ok (.lreturn, 1) := dk_173 (dk_at dksX0_elementOf_2 23 rfl rfl)
theorem dX0_elementOf_60 : decode cX0_elementOf 60 = .ok (.aload_n 0, 1) := dk_42 (dk_at dksX0_elementOf_3 0 rfl rfl)
theorem dX0_elementOf_61 : decode cX0_elementOf 61 = .ok (.checkcast 98, 3) := dk_192 0 98 (dk_at dksX0_elementOf_3 1 rfl rfl)
theorem dX0_elementOf_64 : decode cX0_elementOf 64 = .ok (.iload_n 1, 1) := dk_27 (dk_at dksX0_elementOf_3 4 rfl rfl)
theorem dX0_elementOf_65 : decode cX0_elementOf 65 = .ok (.laload, 1) := dk_47 (dk_at dksX0_elementOf_3 5 rfl rfl)
theorem dX0_elementOf_66 : decode cX0_elementOf 66 = .ok (.lreturn, 1) := dk_173 (dk_at dksX0_elementOf_3 6 rfl rfl)
theorem dX0_elementOf_67 : decode cX0_elementOf 67 = .ok (.aload_n 0, 1) := dk_42 (dk_at dksX0_elementOf_3 7 rfl rfl)
theorem dX0_elementOf_68 : decode cX0_elementOf 68 = .ok (.checkcast 104, 3) := dk_192 0 104 (dk_at dksX0_elementOf_3 8 rfl rfl)
theorem dX0_elementOf_71 : decode cX0_elementOf 71 = .ok (.iload_n 1, 1) := dk_27 (dk_at dksX0_elementOf_3 11 rfl rfl)
theorem dX0_elementOf_72 : decode cX0_elementOf 72 = .ok (.baload, 1) := dk_51 (dk_at dksX0_elementOf_3 12 rfl rfl)
theorem dX0_elementOf_73 : decode cX0_elementOf 73 = .ok (.ifCond .eq 7, 3) := dk_153 0 7 (dk_at dksX0_elementOf_3 13 rfl rfl)
theorem dX0_elementOf_76 : decode cX0_elementOf 76 = .ok (.lconst 1, 1) := dk_10 (dk_at dksX0_elementOf_3 16 rfl rfl)
theorem dX0_elementOf_77 : decode cX0_elementOf 77 = .ok (.goto 4, 3) := dk_167 0 4 (dk_at dksX0_elementOf_3 17 rfl rfl)
theorem dX0_elementOf_80 : decode cX0_elementOf 80 = .ok (.lconst 0, 1) := dk_9 (dk_at dksX0_elementOf_3 20 rfl rfl)
theorem dX0_elementOf_81 : decode cX0_elementOf 81 = .ok (.lreturn, 1) := dk_173 (dk_at dksX0_elementOf_3 21 rfl rfl)
abbrev cX0_holds : ByteArray := prog_1_method_23_code
def yX0_holds : MethodName := ⟨RX0, "holds", "(I)I"⟩
def dkwX0_holds_2 : List UInt8 := [182, 0, 154, 96, 167, 0, 7, 44, 184, 0, 100, 172]
abbrev dktX0_holds_2 : List UInt8 := dkwX0_holds_2 ++ []
def dkwX0_holds_1 : List UInt8 := [180, 0, 65, 27, 50, 180, 0, 114, 77, 44, 193, 0, 120, 153, 0, 16, 16, 10, 44, 192, 0, 120]
abbrev dktX0_holds_1 : List UInt8 := dkwX0_holds_1 ++ dktX0_holds_2
def dkwX0_holds_0 : List UInt8 := [27, 184, 0, 106, 153, 0, 15, 42, 180, 0, 65, 27, 50, 180, 0, 114, 199, 0, 5, 2, 172, 42]
abbrev dktX0_holds_0 : List UInt8 := dkwX0_holds_0 ++ dktX0_holds_1
theorem dksX0_holds_0 : cX0_holds.data.toList.drop 0 = dktX0_holds_0 := by decide +kernel
theorem dksX0_holds_1 : cX0_holds.data.toList.drop 22 = dktX0_holds_1 := dk_seg dksX0_holds_0 22 rfl rfl
theorem dksX0_holds_2 : cX0_holds.data.toList.drop 44 = dktX0_holds_2 := dk_seg dksX0_holds_1 22 rfl rfl
theorem dX0_holds_0 : decode cX0_holds 0 = .ok (.iload_n 1, 1) := dk_27 (dk_at dksX0_holds_0 0 rfl rfl)
theorem dX0_holds_1 : decode cX0_holds 1 = .ok (.invokestatic 106, 3) := dk_184 0 106 (dk_at dksX0_holds_0 1 rfl rfl)
theorem dX0_holds_4 : decode cX0_holds 4 = .ok (.ifCond .eq 15, 3) := dk_153 0 15 (dk_at dksX0_holds_0 4 rfl rfl)
theorem dX0_holds_7 : decode cX0_holds 7 = .ok (.aload_n 0, 1) := dk_42 (dk_at dksX0_holds_0 7 rfl rfl)
theorem dX0_holds_8 : decode cX0_holds 8 = .ok (.getfield 65, 3) := dk_180 0 65 (dk_at dksX0_holds_0 8 rfl rfl)
theorem dX0_holds_11 : decode cX0_holds 11 = .ok (.iload_n 1, 1) := dk_27 (dk_at dksX0_holds_0 11 rfl rfl)
theorem dX0_holds_12 : decode cX0_holds 12 = .ok (.aaload, 1) := dk_50 (dk_at dksX0_holds_0 12 rfl rfl)
theorem dX0_holds_13 : decode cX0_holds 13 = .ok (.getfield 114, 3) := dk_180 0 114 (dk_at dksX0_holds_0 13 rfl rfl)
theorem dX0_holds_16 : decode cX0_holds 16 = .ok (.ifnonnull 5, 3) := dk_199 0 5 (dk_at dksX0_holds_0 16 rfl rfl)
theorem dX0_holds_19 : decode cX0_holds 19 = .ok (.iconst (-1), 1) := dk_2 (dk_at dksX0_holds_0 19 rfl rfl)
theorem dX0_holds_20 : decode cX0_holds 20 = .ok (.ireturn, 1) := dk_172 (dk_at dksX0_holds_0 20 rfl rfl)
theorem dX0_holds_21 : decode cX0_holds 21 = .ok (.aload_n 0, 1) := dk_42 (dk_at dksX0_holds_0 21 rfl rfl)
theorem dX0_holds_22 : decode cX0_holds 22 = .ok (.getfield 65, 3) := dk_180 0 65 (dk_at dksX0_holds_1 0 rfl rfl)
theorem dX0_holds_25 : decode cX0_holds 25 = .ok (.iload_n 1, 1) := dk_27 (dk_at dksX0_holds_1 3 rfl rfl)
theorem dX0_holds_26 : decode cX0_holds 26 = .ok (.aaload, 1) := dk_50 (dk_at dksX0_holds_1 4 rfl rfl)
theorem dX0_holds_27 : decode cX0_holds 27 = .ok (.getfield 114, 3) := dk_180 0 114 (dk_at dksX0_holds_1 5 rfl rfl)
theorem dX0_holds_30 : decode cX0_holds 30 = .ok (.astore_n 2, 1) := dk_77 (dk_at dksX0_holds_1 8 rfl rfl)
theorem dX0_holds_31 : decode cX0_holds 31 = .ok (.aload_n 2, 1) := dk_44 (dk_at dksX0_holds_1 9 rfl rfl)
theorem dX0_holds_32 : decode cX0_holds 32 = .ok (.instanceof 120, 3) := dk_193 0 120 (dk_at dksX0_holds_1 10 rfl rfl)
theorem dX0_holds_35 : decode cX0_holds 35 = .ok (.ifCond .eq 16, 3) := dk_153 0 16 (dk_at dksX0_holds_1 13 rfl rfl)
theorem dX0_holds_38 : decode cX0_holds 38 = .ok (.bipush 10, 2) := dk_16 10 (dk_at dksX0_holds_1 16 rfl rfl)
theorem dX0_holds_40 : decode cX0_holds 40 = .ok (.aload_n 2, 1) := dk_44 (dk_at dksX0_holds_1 18 rfl rfl)
theorem dX0_holds_41 : decode cX0_holds 41 = .ok (.checkcast 120, 3) := dk_192 0 120 (dk_at dksX0_holds_1 19 rfl rfl)
theorem dX0_holds_44 : decode cX0_holds 44 = .ok (.invokevirtual 154, 3) := dk_182 0 154 (dk_at dksX0_holds_2 0 rfl rfl)
theorem dX0_holds_47 : decode cX0_holds 47 = .ok (.iadd, 1) := dk_96 (dk_at dksX0_holds_2 3 rfl rfl)
theorem dX0_holds_48 : decode cX0_holds 48 = .ok (.goto 7, 3) := dk_167 0 7 (dk_at dksX0_holds_2 4 rfl rfl)
theorem dX0_holds_51 : decode cX0_holds 51 = .ok (.aload_n 2, 1) := dk_44 (dk_at dksX0_holds_2 7 rfl rfl)
theorem dX0_holds_52 : decode cX0_holds 52 = .ok (.invokestatic 100, 3) := dk_184 0 100 (dk_at dksX0_holds_2 8 rfl rfl)
theorem dX0_holds_55 : decode cX0_holds 55 = .ok (.ireturn, 1) := dk_172 (dk_at dksX0_holds_2 11 rfl rfl)
abbrev cX0_rule : ByteArray := prog_1_method_24_code
def yX0_rule : MethodName := ⟨RX0, "rule", "(III)I"⟩
def dkwX0_rule_2 : List UInt8 := [4, 172]
abbrev dktX0_rule_2 : List UInt8 := dkwX0_rule_2 ++ []
def dkwX0_rule_1 : List UInt8 := [154, 0, 10, 42, 16, 254, 182, 0, 79, 172, 42, 180, 0, 65, 27, 50, 28, 29, 184, 0, 157, 181, 0, 114]
abbrev dktX0_rule_1 : List UInt8 := dkwX0_rule_1 ++ dktX0_rule_2
def dkwX0_rule_0 : List UInt8 := [27, 184, 0, 106, 153, 0, 23, 28, 4, 16, 6, 184, 0, 82, 153, 0, 13, 29, 3, 16, 99, 184, 0, 82]
abbrev dktX0_rule_0 : List UInt8 := dkwX0_rule_0 ++ dktX0_rule_1
theorem dksX0_rule_0 : cX0_rule.data.toList.drop 0 = dktX0_rule_0 := by decide +kernel
theorem dksX0_rule_1 : cX0_rule.data.toList.drop 24 = dktX0_rule_1 := dk_seg dksX0_rule_0 24 rfl rfl
theorem dksX0_rule_2 : cX0_rule.data.toList.drop 48 = dktX0_rule_2 := dk_seg dksX0_rule_1 24 rfl rfl
theorem dX0_rule_0 : decode cX0_rule 0 = .ok (.iload_n 1, 1) := dk_27 (dk_at dksX0_rule_0 0 rfl rfl)
theorem dX0_rule_1 : decode cX0_rule 1 = .ok (.invokestatic 106, 3) := dk_184 0 106 (dk_at dksX0_rule_0 1 rfl rfl)
theorem dX0_rule_4 : decode cX0_rule 4 = .ok (.ifCond .eq 23, 3) := dk_153 0 23 (dk_at dksX0_rule_0 4 rfl rfl)
theorem dX0_rule_7 : decode cX0_rule 7 = .ok (.iload_n 2, 1) := dk_28 (dk_at dksX0_rule_0 7 rfl rfl)
theorem dX0_rule_8 : decode cX0_rule 8 = .ok (.iconst 1, 1) := dk_4 (dk_at dksX0_rule_0 8 rfl rfl)
theorem dX0_rule_9 : decode cX0_rule 9 = .ok (.bipush 6, 2) := dk_16 6 (dk_at dksX0_rule_0 9 rfl rfl)
theorem dX0_rule_11 : decode cX0_rule 11 = .ok (.invokestatic 82, 3) := dk_184 0 82 (dk_at dksX0_rule_0 11 rfl rfl)
theorem dX0_rule_14 : decode cX0_rule 14 = .ok (.ifCond .eq 13, 3) := dk_153 0 13 (dk_at dksX0_rule_0 14 rfl rfl)
theorem dX0_rule_17 : decode cX0_rule 17 = .ok (.iload_n 3, 1) := dk_29 (dk_at dksX0_rule_0 17 rfl rfl)
theorem dX0_rule_18 : decode cX0_rule 18 = .ok (.iconst 0, 1) := dk_3 (dk_at dksX0_rule_0 18 rfl rfl)
theorem dX0_rule_19 : decode cX0_rule 19 = .ok (.bipush 99, 2) := dk_16 99 (dk_at dksX0_rule_0 19 rfl rfl)
theorem dX0_rule_21 : decode cX0_rule 21 = .ok (.invokestatic 82, 3) := dk_184 0 82 (dk_at dksX0_rule_0 21 rfl rfl)
theorem dX0_rule_24 : decode cX0_rule 24 = .ok (.ifCond .ne 10, 3) := dk_154 0 10 (dk_at dksX0_rule_1 0 rfl rfl)
theorem dX0_rule_27 : decode cX0_rule 27 = .ok (.aload_n 0, 1) := dk_42 (dk_at dksX0_rule_1 3 rfl rfl)
theorem dX0_rule_28 : decode cX0_rule 28 = .ok (.bipush (-2), 2) := dk_16 254 (dk_at dksX0_rule_1 4 rfl rfl)
theorem dX0_rule_30 : decode cX0_rule 30 = .ok (.invokevirtual 79, 3) := dk_182 0 79 (dk_at dksX0_rule_1 6 rfl rfl)
theorem dX0_rule_33 : decode cX0_rule 33 = .ok (.ireturn, 1) := dk_172 (dk_at dksX0_rule_1 9 rfl rfl)
theorem dX0_rule_34 : decode cX0_rule 34 = .ok (.aload_n 0, 1) := dk_42 (dk_at dksX0_rule_1 10 rfl rfl)
theorem dX0_rule_35 : decode cX0_rule 35 = .ok (.getfield 65, 3) := dk_180 0 65 (dk_at dksX0_rule_1 11 rfl rfl)
theorem dX0_rule_38 : decode cX0_rule 38 = .ok (.iload_n 1, 1) := dk_27 (dk_at dksX0_rule_1 14 rfl rfl)
theorem dX0_rule_39 : decode cX0_rule 39 = .ok (.aaload, 1) := dk_50 (dk_at dksX0_rule_1 15 rfl rfl)
theorem dX0_rule_40 : decode cX0_rule 40 = .ok (.iload_n 2, 1) := dk_28 (dk_at dksX0_rule_1 16 rfl rfl)
theorem dX0_rule_41 : decode cX0_rule 41 = .ok (.iload_n 3, 1) := dk_29 (dk_at dksX0_rule_1 17 rfl rfl)
theorem dX0_rule_42 : decode cX0_rule 42 = .ok (.invokestatic 157, 3) := dk_184 0 157 (dk_at dksX0_rule_1 18 rfl rfl)
theorem dX0_rule_45 : decode cX0_rule 45 = .ok (.putfield 114, 3) := dk_181 0 114 (dk_at dksX0_rule_1 21 rfl rfl)
theorem dX0_rule_48 : decode cX0_rule 48 = .ok (.iconst 1, 1) := dk_4 (dk_at dksX0_rule_2 0 rfl rfl)
theorem dX0_rule_49 : decode cX0_rule 49 = .ok (.ireturn, 1) := dk_172 (dk_at dksX0_rule_2 1 rfl rfl)
abbrev cX0_ruleOf : ByteArray := prog_1_method_4_code
def yX0_ruleOf : MethodName := ⟨RX0, "ruleOf", "(II)LThreeSizes$Rule;"⟩
def dkwX0_ruleOf_4 : List UInt8 := [187, 0, 25, 89, 27, 183, 0, 27, 176]
abbrev dktX0_ruleOf_4 : List UInt8 := dkwX0_ruleOf_4 ++ []
def dkwX0_ruleOf_3 : List UInt8 := [183, 0, 18, 176, 187, 0, 19, 89, 27, 183, 0, 21, 176, 187, 0, 22, 89, 27, 183, 0, 24, 176]
abbrev dktX0_ruleOf_3 : List UInt8 := dkwX0_ruleOf_3 ++ dktX0_ruleOf_4
def dkwX0_ruleOf_2 : List UInt8 := [187, 0, 7, 89, 27, 183, 0, 9, 176, 187, 0, 13, 89, 27, 183, 0, 15, 176, 187, 0, 16, 89, 27]
abbrev dktX0_ruleOf_2 : List UInt8 := dkwX0_ruleOf_2 ++ dktX0_ruleOf_3
def dkwX0_ruleOf_1 : List UInt8 := [170, 0, 0, 0, 0, 0, 80, 0, 0, 0, 1, 0, 0, 0, 5, 0, 0, 0, 35, 0, 0, 0, 44, 0, 0, 0, 53, 0, 0, 0, 62, 0, 0, 0, 71]
abbrev dktX0_ruleOf_1 : List UInt8 := dkwX0_ruleOf_1 ++ dktX0_ruleOf_2
def dkwX0_ruleOf_0 : List UInt8 := [26]
abbrev dktX0_ruleOf_0 : List UInt8 := dkwX0_ruleOf_0 ++ dktX0_ruleOf_1
theorem dksX0_ruleOf_0 : cX0_ruleOf.data.toList.drop 0 = dktX0_ruleOf_0 := by decide +kernel
theorem dksX0_ruleOf_1 : cX0_ruleOf.data.toList.drop 1 = dktX0_ruleOf_1 := dk_seg dksX0_ruleOf_0 1 rfl rfl
theorem dksX0_ruleOf_2 : cX0_ruleOf.data.toList.drop 36 = dktX0_ruleOf_2 := dk_seg dksX0_ruleOf_1 35 rfl rfl
theorem dksX0_ruleOf_3 : cX0_ruleOf.data.toList.drop 59 = dktX0_ruleOf_3 := dk_seg dksX0_ruleOf_2 23 rfl rfl
theorem dksX0_ruleOf_4 : cX0_ruleOf.data.toList.drop 81 = dktX0_ruleOf_4 := dk_seg dksX0_ruleOf_3 22 rfl rfl
theorem dX0_ruleOf_0 : decode cX0_ruleOf 0 = .ok (.iload_n 0, 1) := dk_26 (dk_at dksX0_ruleOf_0 0 rfl rfl)
theorem dX0_ruleOf_1 : decode cX0_ruleOf 1 = .ok (.tableswitch 80 1 5 #[35, 44, 53, 62, 71], 35) := by decide +kernel
theorem dX0_ruleOf_36 : decode cX0_ruleOf 36 = .ok (.new 7, 3) := dk_187 0 7 (dk_at dksX0_ruleOf_2 0 rfl rfl)
theorem dX0_ruleOf_39 : decode cX0_ruleOf 39 = .ok (.dup, 1) := dk_89 (dk_at dksX0_ruleOf_2 3 rfl rfl)
theorem dX0_ruleOf_40 : decode cX0_ruleOf 40 = .ok (.iload_n 1, 1) := dk_27 (dk_at dksX0_ruleOf_2 4 rfl rfl)
theorem dX0_ruleOf_41 : decode cX0_ruleOf 41 = .ok (.invokespecial 9, 3) := dk_183 0 9 (dk_at dksX0_ruleOf_2 5 rfl rfl)
theorem dX0_ruleOf_44 : decode cX0_ruleOf 44 = .ok (.areturn, 1) := dk_176 (dk_at dksX0_ruleOf_2 8 rfl rfl)
theorem dX0_ruleOf_45 : decode cX0_ruleOf 45 = .ok (.new 13, 3) := dk_187 0 13 (dk_at dksX0_ruleOf_2 9 rfl rfl)
theorem dX0_ruleOf_48 : decode cX0_ruleOf 48 = .ok (.dup, 1) := dk_89 (dk_at dksX0_ruleOf_2 12 rfl rfl)
theorem dX0_ruleOf_49 : decode cX0_ruleOf 49 = .ok (.iload_n 1, 1) := dk_27 (dk_at dksX0_ruleOf_2 13 rfl rfl)
theorem dX0_ruleOf_50 : decode cX0_ruleOf 50 = .ok (.invokespecial 15, 3) := dk_183 0 15 (dk_at dksX0_ruleOf_2 14 rfl rfl)
theorem dX0_ruleOf_53 : decode cX0_ruleOf 53 = .ok (.areturn, 1) := dk_176 (dk_at dksX0_ruleOf_2 17 rfl rfl)
theorem dX0_ruleOf_54 : decode cX0_ruleOf 54 = .ok (.new 16, 3) := dk_187 0 16 (dk_at dksX0_ruleOf_2 18 rfl rfl)
theorem dX0_ruleOf_57 : decode cX0_ruleOf 57 = .ok (.dup, 1) := dk_89 (dk_at dksX0_ruleOf_2 21 rfl rfl)
theorem dX0_ruleOf_58 : decode cX0_ruleOf 58 = .ok (.iload_n 1, 1) := dk_27 (dk_at dksX0_ruleOf_2 22 rfl rfl)
theorem dX0_ruleOf_59 : decode cX0_ruleOf 59 = .ok (.invokespecial 18, 3) := dk_183 0 18 (dk_at dksX0_ruleOf_3 0 rfl rfl)
theorem dX0_ruleOf_62 : decode cX0_ruleOf 62 = .ok (.areturn, 1) := dk_176 (dk_at dksX0_ruleOf_3 3 rfl rfl)
theorem dX0_ruleOf_63 : decode cX0_ruleOf 63 = .ok (.new 19, 3) := dk_187 0 19 (dk_at dksX0_ruleOf_3 4 rfl rfl)
theorem dX0_ruleOf_66 : decode cX0_ruleOf 66 = .ok (.dup, 1) := dk_89 (dk_at dksX0_ruleOf_3 7 rfl rfl)
theorem dX0_ruleOf_67 : decode cX0_ruleOf 67 = .ok (.iload_n 1, 1) := dk_27 (dk_at dksX0_ruleOf_3 8 rfl rfl)
theorem dX0_ruleOf_68 : decode cX0_ruleOf 68 = .ok (.invokespecial 21, 3) := dk_183 0 21 (dk_at dksX0_ruleOf_3 9 rfl rfl)
theorem dX0_ruleOf_71 : decode cX0_ruleOf 71 = .ok (.areturn, 1) := dk_176 (dk_at dksX0_ruleOf_3 12 rfl rfl)
theorem dX0_ruleOf_72 : decode cX0_ruleOf 72 = .ok (.new 22, 3) := dk_187 0 22 (dk_at dksX0_ruleOf_3 13 rfl rfl)
theorem dX0_ruleOf_75 : decode cX0_ruleOf 75 = .ok (.dup, 1) := dk_89 (dk_at dksX0_ruleOf_3 16 rfl rfl)
theorem dX0_ruleOf_76 : decode cX0_ruleOf 76 = .ok (.iload_n 1, 1) := dk_27 (dk_at dksX0_ruleOf_3 17 rfl rfl)
theorem dX0_ruleOf_77 : decode cX0_ruleOf 77 = .ok (.invokespecial 24, 3) := dk_183 0 24 (dk_at dksX0_ruleOf_3 18 rfl rfl)
theorem dX0_ruleOf_80 : decode cX0_ruleOf 80 = .ok (.areturn, 1) := dk_176 (dk_at dksX0_ruleOf_3 21 rfl rfl)
theorem dX0_ruleOf_81 : decode cX0_ruleOf 81 = .ok (.new 25, 3) := dk_187 0 25 (dk_at dksX0_ruleOf_4 0 rfl rfl)
theorem dX0_ruleOf_84 : decode cX0_ruleOf 84 = .ok (.dup, 1) := dk_89 (dk_at dksX0_ruleOf_4 3 rfl rfl)
theorem dX0_ruleOf_85 : decode cX0_ruleOf 85 = .ok (.iload_n 1, 1) := dk_27 (dk_at dksX0_ruleOf_4 4 rfl rfl)
theorem dX0_ruleOf_86 : decode cX0_ruleOf 86 = .ok (.invokespecial 27, 3) := dk_183 0 27 (dk_at dksX0_ruleOf_4 5 rfl rfl)
theorem dX0_ruleOf_89 : decode cX0_ruleOf 89 = .ok (.areturn, 1) := dk_176 (dk_at dksX0_ruleOf_4 8 rfl rfl)
abbrev cX0_says : ByteArray := prog_1_method_26_code
def yX0_says : MethodName := ⟨RX0, "says", "(II)I"⟩
def dkwX0_says_8 : List UInt8 := [172, 58, 4, 42, 25, 4, 180, 0, 133, 182, 0, 79, 172]
abbrev dktX0_says_8 : List UInt8 := dkwX0_says_8 ++ []
def dkwX0_says_7 : List UInt8 := [180, 0, 85, 182, 0, 172, 172, 58, 4, 42, 16, 253, 182, 0, 79, 172, 58, 4, 42, 16, 252, 182, 0, 79]
abbrev dktX0_says_7 : List UInt8 := dkwX0_says_7 ++ dktX0_says_8
def dkwX0_says_6 : List UInt8 := [192, 0, 22, 42, 180, 0, 59, 180, 0, 85, 182, 0, 171, 172, 45, 192, 0, 25, 42, 180, 0, 59]
abbrev dktX0_says_6 : List UInt8 := dkwX0_says_6 ++ dktX0_says_7
def dkwX0_says_5 : List UInt8 := [180, 0, 85, 182, 0, 169, 172, 45, 192, 0, 19, 42, 180, 0, 59, 180, 0, 85, 182, 0, 170, 172, 45]
abbrev dktX0_says_5 : List UInt8 := dkwX0_says_5 ++ dktX0_says_6
def dkwX0_says_4 : List UInt8 := [192, 0, 13, 42, 180, 0, 59, 180, 0, 85, 182, 0, 168, 172, 45, 192, 0, 16, 42, 180, 0, 59]
abbrev dktX0_says_4 : List UInt8 := dkwX0_says_4 ++ dktX0_says_5
def dkwX0_says_3 : List UInt8 := [45, 192, 0, 120, 180, 0, 161, 172, 45, 192, 0, 7, 42, 180, 0, 59, 180, 0, 85, 182, 0, 164, 172, 45]
abbrev dktX0_says_3 : List UInt8 := dkwX0_says_3 ++ dktX0_says_4
def dkwX0_says_2 : List UInt8 := [170, 0, 0, 0, 120, 0, 0, 0, 0, 0, 0, 0, 5, 0, 0, 0, 37, 0, 0, 0, 45, 0, 0, 0, 60, 0, 0, 0, 75, 0, 0, 0, 90, 0, 0, 0, 105]
abbrev dktX0_says_2 : List UInt8 := dkwX0_says_2 ++ dktX0_says_3
def dkwX0_says_1 : List UInt8 := [42, 180, 0, 65, 27, 50, 180, 0, 114, 78, 28]
abbrev dktX0_says_1 : List UInt8 := dkwX0_says_1 ++ dktX0_says_2
def dkwX0_says_0 : List UInt8 := [27, 184, 0, 106, 153, 0, 13, 28, 3, 16, 6, 184, 0, 82, 154, 0, 10, 42, 16, 254, 182, 0, 79, 172]
abbrev dktX0_says_0 : List UInt8 := dkwX0_says_0 ++ dktX0_says_1
theorem dksX0_says_0 : cX0_says.data.toList.drop 0 = dktX0_says_0 := by decide +kernel
theorem dksX0_says_1 : cX0_says.data.toList.drop 24 = dktX0_says_1 := dk_seg dksX0_says_0 24 rfl rfl
theorem dksX0_says_2 : cX0_says.data.toList.drop 35 = dktX0_says_2 := dk_seg dksX0_says_1 11 rfl rfl
theorem dksX0_says_3 : cX0_says.data.toList.drop 72 = dktX0_says_3 := dk_seg dksX0_says_2 37 rfl rfl
theorem dksX0_says_4 : cX0_says.data.toList.drop 96 = dktX0_says_4 := dk_seg dksX0_says_3 24 rfl rfl
theorem dksX0_says_5 : cX0_says.data.toList.drop 118 = dktX0_says_5 := dk_seg dksX0_says_4 22 rfl rfl
theorem dksX0_says_6 : cX0_says.data.toList.drop 141 = dktX0_says_6 := dk_seg dksX0_says_5 23 rfl rfl
theorem dksX0_says_7 : cX0_says.data.toList.drop 163 = dktX0_says_7 := dk_seg dksX0_says_6 22 rfl rfl
theorem dksX0_says_8 : cX0_says.data.toList.drop 187 = dktX0_says_8 := dk_seg dksX0_says_7 24 rfl rfl
theorem dX0_says_0 : decode cX0_says 0 = .ok (.iload_n 1, 1) := dk_27 (dk_at dksX0_says_0 0 rfl rfl)
theorem dX0_says_1 : decode cX0_says 1 = .ok (.invokestatic 106, 3) := dk_184 0 106 (dk_at dksX0_says_0 1 rfl rfl)
theorem dX0_says_4 : decode cX0_says 4 = .ok (.ifCond .eq 13, 3) := dk_153 0 13 (dk_at dksX0_says_0 4 rfl rfl)
theorem dX0_says_7 : decode cX0_says 7 = .ok (.iload_n 2, 1) := dk_28 (dk_at dksX0_says_0 7 rfl rfl)
theorem dX0_says_8 : decode cX0_says 8 = .ok (.iconst 0, 1) := dk_3 (dk_at dksX0_says_0 8 rfl rfl)
theorem dX0_says_9 : decode cX0_says 9 = .ok (.bipush 6, 2) := dk_16 6 (dk_at dksX0_says_0 9 rfl rfl)
theorem dX0_says_11 : decode cX0_says 11 = .ok (.invokestatic 82, 3) := dk_184 0 82 (dk_at dksX0_says_0 11 rfl rfl)
theorem dX0_says_14 : decode cX0_says 14 = .ok (.ifCond .ne 10, 3) := dk_154 0 10 (dk_at dksX0_says_0 14 rfl rfl)
theorem dX0_says_17 : decode cX0_says 17 = .ok (.aload_n 0, 1) := dk_42 (dk_at dksX0_says_0 17 rfl rfl)
theorem dX0_says_18 : decode cX0_says 18 = .ok (.bipush (-2), 2) := dk_16 254 (dk_at dksX0_says_0 18 rfl rfl)
theorem dX0_says_20 : decode cX0_says 20 = .ok (.invokevirtual 79, 3) := dk_182 0 79 (dk_at dksX0_says_0 20 rfl rfl)
theorem dX0_says_23 : decode cX0_says 23 = .ok (.ireturn, 1) := dk_172 (dk_at dksX0_says_0 23 rfl rfl)
theorem dX0_says_24 : decode cX0_says 24 = .ok (.aload_n 0, 1) := dk_42 (dk_at dksX0_says_1 0 rfl rfl)
theorem dX0_says_25 : decode cX0_says 25 = .ok (.getfield 65, 3) := dk_180 0 65 (dk_at dksX0_says_1 1 rfl rfl)
theorem dX0_says_28 : decode cX0_says 28 = .ok (.iload_n 1, 1) := dk_27 (dk_at dksX0_says_1 4 rfl rfl)
theorem dX0_says_29 : decode cX0_says 29 = .ok (.aaload, 1) := dk_50 (dk_at dksX0_says_1 5 rfl rfl)
theorem dX0_says_30 : decode cX0_says 30 = .ok (.getfield 114, 3) := dk_180 0 114 (dk_at dksX0_says_1 6 rfl rfl)
theorem dX0_says_33 : decode cX0_says 33 = .ok (.astore_n 3, 1) := dk_78 (dk_at dksX0_says_1 9 rfl rfl)
theorem dX0_says_34 : decode cX0_says 34 = .ok (.iload_n 2, 1) := dk_28 (dk_at dksX0_says_1 10 rfl rfl)
theorem dX0_says_35 : decode cX0_says 35 = .ok (.tableswitch 120 0 5 #[37, 45, 60, 75, 90, 105], 37) := by decide +kernel
theorem dX0_says_72 : decode cX0_says 72 = .ok (.aload_n 3, 1) := dk_45 (dk_at dksX0_says_3 0 rfl rfl)
theorem dX0_says_73 : decode cX0_says 73 = .ok (.checkcast 120, 3) := dk_192 0 120 (dk_at dksX0_says_3 1 rfl rfl)
theorem dX0_says_76 : decode cX0_says 76 = .ok (.getfield 161, 3) := dk_180 0 161 (dk_at dksX0_says_3 4 rfl rfl)
theorem dX0_says_79 : decode cX0_says 79 = .ok (.ireturn, 1) := dk_172 (dk_at dksX0_says_3 7 rfl rfl)
theorem dX0_says_80 : decode cX0_says 80 = .ok (.aload_n 3, 1) := dk_45 (dk_at dksX0_says_3 8 rfl rfl)
theorem dX0_says_81 : decode cX0_says 81 = .ok (.checkcast 7, 3) := dk_192 0 7 (dk_at dksX0_says_3 9 rfl rfl)
theorem dX0_says_84 : decode cX0_says 84 = .ok (.aload_n 0, 1) := dk_42 (dk_at dksX0_says_3 12 rfl rfl)
theorem dX0_says_85 : decode cX0_says 85 = .ok (.getfield 59, 3) := dk_180 0 59 (dk_at dksX0_says_3 13 rfl rfl)
theorem dX0_says_88 : decode cX0_says 88 = .ok (.getfield 85, 3) := dk_180 0 85 (dk_at dksX0_says_3 16 rfl rfl)
theorem dX0_says_91 : decode cX0_says 91 = .ok (.invokevirtual 164, 3) := dk_182 0 164 (dk_at dksX0_says_3 19 rfl rfl)
theorem dX0_says_94 : decode cX0_says 94 = .ok (.ireturn, 1) := dk_172 (dk_at dksX0_says_3 22 rfl rfl)
theorem dX0_says_95 : decode cX0_says 95 = .ok (.aload_n 3, 1) := dk_45 (dk_at dksX0_says_3 23 rfl rfl)
theorem dX0_says_96 : decode cX0_says 96 = .ok (.checkcast 13, 3) := dk_192 0 13 (dk_at dksX0_says_4 0 rfl rfl)
theorem dX0_says_99 : decode cX0_says 99 = .ok (.aload_n 0, 1) := dk_42 (dk_at dksX0_says_4 3 rfl rfl)
theorem dX0_says_100 : decode cX0_says 100 = .ok (.getfield 59, 3) := dk_180 0 59 (dk_at dksX0_says_4 4 rfl rfl)
theorem dX0_says_103 : decode cX0_says 103 = .ok (.getfield 85, 3) := dk_180 0 85 (dk_at dksX0_says_4 7 rfl rfl)
theorem dX0_says_106 : decode cX0_says 106 = .ok (.invokevirtual 168, 3) := dk_182 0 168 (dk_at dksX0_says_4 10 rfl rfl)
theorem dX0_says_109 : decode cX0_says 109 = .ok (.ireturn, 1) := dk_172 (dk_at dksX0_says_4 13 rfl rfl)
theorem dX0_says_110 : decode cX0_says 110 = .ok (.aload_n 3, 1) := dk_45 (dk_at dksX0_says_4 14 rfl rfl)
theorem dX0_says_111 : decode cX0_says 111 = .ok (.checkcast 16, 3) := dk_192 0 16 (dk_at dksX0_says_4 15 rfl rfl)
theorem dX0_says_114 : decode cX0_says 114 = .ok (.aload_n 0, 1) := dk_42 (dk_at dksX0_says_4 18 rfl rfl)
theorem dX0_says_115 : decode cX0_says 115 = .ok (.getfield 59, 3) := dk_180 0 59 (dk_at dksX0_says_4 19 rfl rfl)
theorem dX0_says_118 : decode cX0_says 118 = .ok (.getfield 85, 3) := dk_180 0 85 (dk_at dksX0_says_5 0 rfl rfl)
theorem dX0_says_121 : decode cX0_says 121 = .ok (.invokevirtual 169, 3) := dk_182 0 169 (dk_at dksX0_says_5 3 rfl rfl)
theorem dX0_says_124 : decode cX0_says 124 = .ok (.ireturn, 1) := dk_172 (dk_at dksX0_says_5 6 rfl rfl)
theorem dX0_says_125 : decode cX0_says 125 = .ok (.aload_n 3, 1) := dk_45 (dk_at dksX0_says_5 7 rfl rfl)
theorem dX0_says_126 : decode cX0_says 126 = .ok (.checkcast 19, 3) := dk_192 0 19 (dk_at dksX0_says_5 8 rfl rfl)
theorem dX0_says_129 : decode cX0_says 129 = .ok (.aload_n 0, 1) := dk_42 (dk_at dksX0_says_5 11 rfl rfl)
theorem dX0_says_130 : decode cX0_says 130 = .ok (.getfield 59, 3) := dk_180 0 59 (dk_at dksX0_says_5 12 rfl rfl)
theorem dX0_says_133 : decode cX0_says 133 = .ok (.getfield 85, 3) := dk_180 0 85 (dk_at dksX0_says_5 15 rfl rfl)
theorem dX0_says_136 : decode cX0_says 136 = .ok (.invokevirtual 170, 3) := dk_182 0 170 (dk_at dksX0_says_5 18 rfl rfl)
theorem dX0_says_139 : decode cX0_says 139 = .ok (.ireturn, 1) := dk_172 (dk_at dksX0_says_5 21 rfl rfl)
theorem dX0_says_140 : decode cX0_says 140 = .ok (.aload_n 3, 1) := dk_45 (dk_at dksX0_says_5 22 rfl rfl)
theorem dX0_says_141 : decode cX0_says 141 = .ok (.checkcast 22, 3) := dk_192 0 22 (dk_at dksX0_says_6 0 rfl rfl)
theorem dX0_says_144 : decode cX0_says 144 = .ok (.aload_n 0, 1) := dk_42 (dk_at dksX0_says_6 3 rfl rfl)
theorem dX0_says_145 : decode cX0_says 145 = .ok (.getfield 59, 3) := dk_180 0 59 (dk_at dksX0_says_6 4 rfl rfl)
theorem dX0_says_148 : decode cX0_says 148 = .ok (.getfield 85, 3) := dk_180 0 85 (dk_at dksX0_says_6 7 rfl rfl)
theorem dX0_says_151 : decode cX0_says 151 = .ok (.invokevirtual 171, 3) := dk_182 0 171 (dk_at dksX0_says_6 10 rfl rfl)
theorem dX0_says_154 : decode cX0_says 154 = .ok (.ireturn, 1) := dk_172 (dk_at dksX0_says_6 13 rfl rfl)
theorem dX0_says_155 : decode cX0_says 155 = .ok (.aload_n 3, 1) := dk_45 (dk_at dksX0_says_6 14 rfl rfl)
theorem dX0_says_156 : decode cX0_says 156 = .ok (.checkcast 25, 3) := dk_192 0 25 (dk_at dksX0_says_6 15 rfl rfl)
theorem dX0_says_159 : decode cX0_says 159 = .ok (.aload_n 0, 1) := dk_42 (dk_at dksX0_says_6 18 rfl rfl)
theorem dX0_says_160 : decode cX0_says 160 = .ok (.getfield 59, 3) := dk_180 0 59 (dk_at dksX0_says_6 19 rfl rfl)
theorem dX0_says_163 : decode cX0_says 163 = .ok (.getfield 85, 3) := dk_180 0 85 (dk_at dksX0_says_7 0 rfl rfl)
theorem dX0_says_166 : decode cX0_says 166 = .ok (.invokevirtual 172, 3) := dk_182 0 172 (dk_at dksX0_says_7 3 rfl rfl)
theorem dX0_says_169 : decode cX0_says 169 = .ok (.ireturn, 1) := dk_172 (dk_at dksX0_says_7 6 rfl rfl)
theorem dX0_says_170 : decode cX0_says 170 = .ok (.astore 4, 2) := dk_58 4 (dk_at dksX0_says_7 7 rfl rfl)
theorem dX0_says_172 : decode cX0_says 172 = .ok (.aload_n 0, 1) := dk_42 (dk_at dksX0_says_7 9 rfl rfl)
theorem dX0_says_173 : decode cX0_says 173 = .ok (.bipush (-3), 2) := dk_16 253 (dk_at dksX0_says_7 10 rfl rfl)
theorem dX0_says_175 : decode cX0_says 175 = .ok (.invokevirtual 79, 3) := dk_182 0 79 (dk_at dksX0_says_7 12 rfl rfl)
theorem dX0_says_178 : decode cX0_says 178 = .ok (.ireturn, 1) := dk_172 (dk_at dksX0_says_7 15 rfl rfl)
theorem dX0_says_179 : decode cX0_says 179 = .ok (.astore 4, 2) := dk_58 4 (dk_at dksX0_says_7 16 rfl rfl)
theorem dX0_says_181 : decode cX0_says 181 = .ok (.aload_n 0, 1) := dk_42 (dk_at dksX0_says_7 18 rfl rfl)
theorem dX0_says_182 : decode cX0_says 182 = .ok (.bipush (-4), 2) := dk_16 252 (dk_at dksX0_says_7 19 rfl rfl)
theorem dX0_says_184 : decode cX0_says 184 = .ok (.invokevirtual 79, 3) := dk_182 0 79 (dk_at dksX0_says_7 21 rfl rfl)
theorem dX0_says_187 : decode cX0_says 187 = .ok (.ireturn, 1) := dk_172 (dk_at dksX0_says_8 0 rfl rfl)
theorem dX0_says_188 : decode cX0_says 188 = .ok (.astore 4, 2) := dk_58 4 (dk_at dksX0_says_8 1 rfl rfl)
theorem dX0_says_190 : decode cX0_says 190 = .ok (.aload_n 0, 1) := dk_42 (dk_at dksX0_says_8 3 rfl rfl)
theorem dX0_says_191 : decode cX0_says 191 = .ok (.aload 4, 2) := dk_25 4 (dk_at dksX0_says_8 4 rfl rfl)
theorem dX0_says_193 : decode cX0_says 193 = .ok (.getfield 133, 3) := dk_180 0 133 (dk_at dksX0_says_8 6 rfl rfl)
theorem dX0_says_196 : decode cX0_says 196 = .ok (.invokevirtual 79, 3) := dk_182 0 79 (dk_at dksX0_says_8 9 rfl rfl)
theorem dX0_says_199 : decode cX0_says 199 = .ok (.ireturn, 1) := dk_172 (dk_at dksX0_says_8 12 rfl rfl)
abbrev cX0_freeOf : ByteArray := prog_1_method_3_code
def yX0_freeOf : MethodName := ⟨RX0, "freeOf", "(II)I"⟩
def dkwX0_freeOf_0 : List UInt8 := [26, 27, 184, 0, 1, 108, 8, 112, 172]
abbrev dktX0_freeOf_0 : List UInt8 := dkwX0_freeOf_0 ++ []
theorem dksX0_freeOf_0 : cX0_freeOf.data.toList.drop 0 = dktX0_freeOf_0 := by decide +kernel
theorem dX0_freeOf_0 : decode cX0_freeOf 0 = .ok (.iload_n 0, 1) := dk_26 (dk_at dksX0_freeOf_0 0 rfl rfl)
theorem dX0_freeOf_1 : decode cX0_freeOf 1 = .ok (.iload_n 1, 1) := dk_27 (dk_at dksX0_freeOf_0 1 rfl rfl)
theorem dX0_freeOf_2 : decode cX0_freeOf 2 = .ok (.invokestatic 1, 3) := dk_184 0 1 (dk_at dksX0_freeOf_0 2 rfl rfl)
theorem dX0_freeOf_5 : decode cX0_freeOf 5 = .ok (.idiv, 1) := dk_108 (dk_at dksX0_freeOf_0 5 rfl rfl)
theorem dX0_freeOf_6 : decode cX0_freeOf 6 = .ok (.iconst 5, 1) := dk_8 (dk_at dksX0_freeOf_0 6 rfl rfl)
theorem dX0_freeOf_7 : decode cX0_freeOf 7 = .ok (.irem, 1) := dk_112 (dk_at dksX0_freeOf_0 7 rfl rfl)
theorem dX0_freeOf_8 : decode cX0_freeOf 8 = .ok (.ireturn, 1) := dk_172 (dk_at dksX0_freeOf_0 8 rfl rfl)
abbrev cX0_step : ByteArray := prog_1_method_2_code
def yX0_step : MethodName := ⟨RX0, "step", "(I)I"⟩
def dkwX0_step_0 : List UInt8 := [26, 154, 0, 7, 4, 167, 0, 14, 26, 4, 160, 0, 7, 8, 167, 0, 5, 16, 25, 172]
abbrev dktX0_step_0 : List UInt8 := dkwX0_step_0 ++ []
theorem dksX0_step_0 : cX0_step.data.toList.drop 0 = dktX0_step_0 := by decide +kernel
theorem dX0_step_0 : decode cX0_step 0 = .ok (.iload_n 0, 1) := dk_26 (dk_at dksX0_step_0 0 rfl rfl)
theorem dX0_step_1 : decode cX0_step 1 = .ok (.ifCond .ne 7, 3) := dk_154 0 7 (dk_at dksX0_step_0 1 rfl rfl)
theorem dX0_step_4 : decode cX0_step 4 = .ok (.iconst 1, 1) := dk_4 (dk_at dksX0_step_0 4 rfl rfl)
theorem dX0_step_5 : decode cX0_step 5 = .ok (.goto 14, 3) := dk_167 0 14 (dk_at dksX0_step_0 5 rfl rfl)
theorem dX0_step_8 : decode cX0_step 8 = .ok (.iload_n 0, 1) := dk_26 (dk_at dksX0_step_0 8 rfl rfl)
theorem dX0_step_9 : decode cX0_step 9 = .ok (.iconst 1, 1) := dk_4 (dk_at dksX0_step_0 9 rfl rfl)
theorem dX0_step_10 : decode cX0_step 10 = .ok (.if_icmp .ne 7, 3) := dk_160 0 7 (dk_at dksX0_step_0 10 rfl rfl)
theorem dX0_step_13 : decode cX0_step 13 = .ok (.iconst 5, 1) := dk_8 (dk_at dksX0_step_0 13 rfl rfl)
theorem dX0_step_14 : decode cX0_step 14 = .ok (.goto 5, 3) := dk_167 0 5 (dk_at dksX0_step_0 14 rfl rfl)
theorem dX0_step_17 : decode cX0_step 17 = .ok (.bipush 25, 2) := dk_16 25 (dk_at dksX0_step_0 17 rfl rfl)
theorem dX0_step_19 : decode cX0_step 19 = .ok (.ireturn, 1) := dk_172 (dk_at dksX0_step_0 19 rfl rfl)
abbrev cX0_bestOf : ByteArray := prog_1_method_5_code
def yX0_bestOf : MethodName := ⟨RX0, "bestOf", "(LThreeSizes$Wall;II[J)I"⟩
def dkwX0_bestOf_2 : List UInt8 := [54, 4, 132, 5, 1, 167, 255, 210, 21, 4, 172]
abbrev dktX0_bestOf_2 : List UInt8 := dkwX0_bestOf_2 ++ []
def dkwX0_bestOf_1 : List UInt8 := [27, 21, 5, 28, 45, 182, 0, 34, 42, 27, 21, 4, 28, 45, 182, 0, 34, 148, 158, 0, 7, 21, 5]
abbrev dktX0_bestOf_1 : List UInt8 := dkwX0_bestOf_1 ++ dktX0_bestOf_2
def dkwX0_bestOf_0 : List UInt8 := [2, 54, 4, 3, 54, 5, 21, 5, 6, 162, 0, 46, 42, 27, 21, 5, 28, 182, 0, 28, 153, 0, 29, 42]
abbrev dktX0_bestOf_0 : List UInt8 := dkwX0_bestOf_0 ++ dktX0_bestOf_1
theorem dksX0_bestOf_0 : cX0_bestOf.data.toList.drop 0 = dktX0_bestOf_0 := by decide +kernel
theorem dksX0_bestOf_1 : cX0_bestOf.data.toList.drop 24 = dktX0_bestOf_1 := dk_seg dksX0_bestOf_0 24 rfl rfl
theorem dksX0_bestOf_2 : cX0_bestOf.data.toList.drop 47 = dktX0_bestOf_2 := dk_seg dksX0_bestOf_1 23 rfl rfl
theorem dX0_bestOf_0 : decode cX0_bestOf 0 = .ok (.iconst (-1), 1) := dk_2 (dk_at dksX0_bestOf_0 0 rfl rfl)
theorem dX0_bestOf_1 : decode cX0_bestOf 1 = .ok (.istore 4, 2) := dk_54 4 (dk_at dksX0_bestOf_0 1 rfl rfl)
theorem dX0_bestOf_3 : decode cX0_bestOf 3 = .ok (.iconst 0, 1) := dk_3 (dk_at dksX0_bestOf_0 3 rfl rfl)
theorem dX0_bestOf_4 : decode cX0_bestOf 4 = .ok (.istore 5, 2) := dk_54 5 (dk_at dksX0_bestOf_0 4 rfl rfl)
theorem dX0_bestOf_6 : decode cX0_bestOf 6 = .ok (.iload 5, 2) := dk_21 5 (dk_at dksX0_bestOf_0 6 rfl rfl)
theorem dX0_bestOf_8 : decode cX0_bestOf 8 = .ok (.iconst 3, 1) := dk_6 (dk_at dksX0_bestOf_0 8 rfl rfl)
theorem dX0_bestOf_9 : decode cX0_bestOf 9 = .ok (.if_icmp .ge 46, 3) := dk_162 0 46 (dk_at dksX0_bestOf_0 9 rfl rfl)
theorem dX0_bestOf_12 : decode cX0_bestOf 12 = .ok (.aload_n 0, 1) := dk_42 (dk_at dksX0_bestOf_0 12 rfl rfl)
theorem dX0_bestOf_13 : decode cX0_bestOf 13 = .ok (.iload_n 1, 1) := dk_27 (dk_at dksX0_bestOf_0 13 rfl rfl)
theorem dX0_bestOf_14 : decode cX0_bestOf 14 = .ok (.iload 5, 2) := dk_21 5 (dk_at dksX0_bestOf_0 14 rfl rfl)
theorem dX0_bestOf_16 : decode cX0_bestOf 16 = .ok (.iload_n 2, 1) := dk_28 (dk_at dksX0_bestOf_0 16 rfl rfl)
theorem dX0_bestOf_17 : decode cX0_bestOf 17 = .ok (.invokevirtual 28, 3) := dk_182 0 28 (dk_at dksX0_bestOf_0 17 rfl rfl)
theorem dX0_bestOf_20 : decode cX0_bestOf 20 = .ok (.ifCond .eq 29, 3) := dk_153 0 29 (dk_at dksX0_bestOf_0 20 rfl rfl)
theorem dX0_bestOf_23 : decode cX0_bestOf 23 = .ok (.aload_n 0, 1) := dk_42 (dk_at dksX0_bestOf_0 23 rfl rfl)
theorem dX0_bestOf_24 : decode cX0_bestOf 24 = .ok (.iload_n 1, 1) := dk_27 (dk_at dksX0_bestOf_1 0 rfl rfl)
theorem dX0_bestOf_25 : decode cX0_bestOf 25 = .ok (.iload 5, 2) := dk_21 5 (dk_at dksX0_bestOf_1 1 rfl rfl)
theorem dX0_bestOf_27 : decode cX0_bestOf 27 = .ok (.iload_n 2, 1) := dk_28 (dk_at dksX0_bestOf_1 3 rfl rfl)
theorem dX0_bestOf_28 : decode cX0_bestOf 28 = .ok (.aload_n 3, 1) := dk_45 (dk_at dksX0_bestOf_1 4 rfl rfl)
theorem dX0_bestOf_29 : decode cX0_bestOf 29 = .ok (.invokevirtual 34, 3) := dk_182 0 34 (dk_at dksX0_bestOf_1 5 rfl rfl)
theorem dX0_bestOf_32 : decode cX0_bestOf 32 = .ok (.aload_n 0, 1) := dk_42 (dk_at dksX0_bestOf_1 8 rfl rfl)
theorem dX0_bestOf_33 : decode cX0_bestOf 33 = .ok (.iload_n 1, 1) := dk_27 (dk_at dksX0_bestOf_1 9 rfl rfl)
theorem dX0_bestOf_34 : decode cX0_bestOf 34 = .ok (.iload 4, 2) := dk_21 4 (dk_at dksX0_bestOf_1 10 rfl rfl)
theorem dX0_bestOf_36 : decode cX0_bestOf 36 = .ok (.iload_n 2, 1) := dk_28 (dk_at dksX0_bestOf_1 12 rfl rfl)
theorem dX0_bestOf_37 : decode cX0_bestOf 37 = .ok (.aload_n 3, 1) := dk_45 (dk_at dksX0_bestOf_1 13 rfl rfl)
theorem dX0_bestOf_38 : decode cX0_bestOf 38 = .ok (.invokevirtual 34, 3) := dk_182 0 34 (dk_at dksX0_bestOf_1 14 rfl rfl)
theorem dX0_bestOf_41 : decode cX0_bestOf 41 = .ok (.lcmp, 1) := dk_148 (dk_at dksX0_bestOf_1 17 rfl rfl)
theorem dX0_bestOf_42 : decode cX0_bestOf 42 = .ok (.ifCond .le 7, 3) := dk_158 0 7 (dk_at dksX0_bestOf_1 18 rfl rfl)
theorem dX0_bestOf_45 : decode cX0_bestOf 45 = .ok (.iload 5, 2) := dk_21 5 (dk_at dksX0_bestOf_1 21 rfl rfl)
theorem dX0_bestOf_47 : decode cX0_bestOf 47 = .ok (.istore 4, 2) := dk_54 4 (dk_at dksX0_bestOf_2 0 rfl rfl)
theorem dX0_bestOf_49 : decode cX0_bestOf 49 = .ok (.iinc 5 1, 3) := dk_132 5 1 (dk_at dksX0_bestOf_2 2 rfl rfl)
theorem dX0_bestOf_52 : decode cX0_bestOf 52 = .ok (.goto (-46), 3) := dk_167 255 210 (dk_at dksX0_bestOf_2 5 rfl rfl)
theorem dX0_bestOf_55 : decode cX0_bestOf 55 = .ok (.iload 4, 2) := dk_21 4 (dk_at dksX0_bestOf_2 8 rfl rfl)
theorem dX0_bestOf_57 : decode cX0_bestOf 57 = .ok (.ireturn, 1) := dk_172 (dk_at dksX0_bestOf_2 10 rfl rfl)
abbrev cX0_size : ByteArray := prog_1_method_27_code
def yX0_size : MethodName := ⟨RX0, "size", "(III)I"⟩
def dkwX0_size_8 : List UInt8 := [21, 5, 172]
abbrev dktX0_size_8 : List UInt8 := dkwX0_size_8 ++ []
def dkwX0_size_7 : List UInt8 := [27, 29, 79, 167, 0, 20, 25, 4, 180, 0, 184, 27, 46, 54, 5, 25, 4, 180, 0, 184, 27, 29, 79]
abbrev dktX0_size_7 : List UInt8 := dkwX0_size_7 ++ dktX0_size_8
def dkwX0_size_6 : List UInt8 := [164, 0, 10, 42, 16, 251, 182, 0, 79, 172, 25, 4, 180, 0, 178, 27, 46, 54, 5, 25, 4, 180, 0, 178]
abbrev dktX0_size_6 : List UInt8 := dkwX0_size_6 ++ dktX0_size_7
def dkwX0_size_5 : List UInt8 := [46, 54, 5, 25, 4, 180, 0, 181, 27, 29, 79, 167, 0, 58, 29, 25, 4, 180, 0, 181, 27, 46]
abbrev dktX0_size_5 : List UInt8 := dkwX0_size_5 ++ dktX0_size_6
def dkwX0_size_4 : List UInt8 := [29, 25, 4, 180, 0, 178, 27, 46, 162, 0, 10, 42, 16, 251, 182, 0, 79, 172, 25, 4, 180, 0, 181, 27]
abbrev dktX0_size_4 : List UInt8 := dkwX0_size_4 ++ dktX0_size_5
def dkwX0_size_3 : List UInt8 := [171, 0, 0, 0, 0, 0, 0, 104, 0, 0, 0, 2, 0, 0, 0, 0, 0, 0, 0, 28, 0, 0, 0, 1, 0, 0, 0, 66]
abbrev dktX0_size_3 : List UInt8 := dkwX0_size_3 ++ dktX0_size_4
def dkwX0_size_2 : List UInt8 := [180, 0, 85, 58, 4, 28]
abbrev dktX0_size_2 : List UInt8 := dkwX0_size_2 ++ dktX0_size_3
def dkwX0_size_1 : List UInt8 := [16, 10, 167, 0, 4, 7, 184, 0, 82, 154, 0, 10, 42, 16, 254, 182, 0, 79, 172, 42, 180, 0, 59]
abbrev dktX0_size_1 : List UInt8 := dkwX0_size_1 ++ dktX0_size_2
def dkwX0_size_0 : List UInt8 := [27, 184, 0, 175, 153, 0, 31, 28, 3, 5, 184, 0, 82, 153, 0, 22, 29, 3, 28, 5, 160, 0, 8]
abbrev dktX0_size_0 : List UInt8 := dkwX0_size_0 ++ dktX0_size_1
theorem dksX0_size_0 : cX0_size.data.toList.drop 0 = dktX0_size_0 := by decide +kernel
theorem dksX0_size_1 : cX0_size.data.toList.drop 23 = dktX0_size_1 := dk_seg dksX0_size_0 23 rfl rfl
theorem dksX0_size_2 : cX0_size.data.toList.drop 46 = dktX0_size_2 := dk_seg dksX0_size_1 23 rfl rfl
theorem dksX0_size_3 : cX0_size.data.toList.drop 52 = dktX0_size_3 := dk_seg dksX0_size_2 6 rfl rfl
theorem dksX0_size_4 : cX0_size.data.toList.drop 80 = dktX0_size_4 := dk_seg dksX0_size_3 28 rfl rfl
theorem dksX0_size_5 : cX0_size.data.toList.drop 104 = dktX0_size_5 := dk_seg dksX0_size_4 24 rfl rfl
theorem dksX0_size_6 : cX0_size.data.toList.drop 126 = dktX0_size_6 := dk_seg dksX0_size_5 22 rfl rfl
theorem dksX0_size_7 : cX0_size.data.toList.drop 150 = dktX0_size_7 := dk_seg dksX0_size_6 24 rfl rfl
theorem dksX0_size_8 : cX0_size.data.toList.drop 173 = dktX0_size_8 := dk_seg dksX0_size_7 23 rfl rfl
theorem dX0_size_0 : decode cX0_size 0 = .ok (.iload_n 1, 1) := dk_27 (dk_at dksX0_size_0 0 rfl rfl)
theorem dX0_size_1 : decode cX0_size 1 = .ok (.invokestatic 175, 3) := dk_184 0 175 (dk_at dksX0_size_0 1 rfl rfl)
theorem dX0_size_4 : decode cX0_size 4 = .ok (.ifCond .eq 31, 3) := dk_153 0 31 (dk_at dksX0_size_0 4 rfl rfl)
theorem dX0_size_7 : decode cX0_size 7 = .ok (.iload_n 2, 1) := dk_28 (dk_at dksX0_size_0 7 rfl rfl)
theorem dX0_size_8 : decode cX0_size 8 = .ok (.iconst 0, 1) := dk_3 (dk_at dksX0_size_0 8 rfl rfl)
theorem dX0_size_9 : decode cX0_size 9 = .ok (.iconst 2, 1) := dk_5 (dk_at dksX0_size_0 9 rfl rfl)
theorem dX0_size_10 : decode cX0_size 10 = .ok (.invokestatic 82, 3) := dk_184 0 82 (dk_at dksX0_size_0 10 rfl rfl)
theorem dX0_size_13 : decode cX0_size 13 = .ok (.ifCond .eq 22, 3) := dk_153 0 22 (dk_at dksX0_size_0 13 rfl rfl)
theorem dX0_size_16 : decode cX0_size 16 = .ok (.iload_n 3, 1) := dk_29 (dk_at dksX0_size_0 16 rfl rfl)
theorem dX0_size_17 : decode cX0_size 17 = .ok (.iconst 0, 1) := dk_3 (dk_at dksX0_size_0 17 rfl rfl)
theorem dX0_size_18 : decode cX0_size 18 = .ok (.iload_n 2, 1) := dk_28 (dk_at dksX0_size_0 18 rfl rfl)
theorem dX0_size_19 : decode cX0_size 19 = .ok (.iconst 2, 1) := dk_5 (dk_at dksX0_size_0 19 rfl rfl)
theorem dX0_size_20 : decode cX0_size 20 = .ok (.if_icmp .ne 8, 3) := dk_160 0 8 (dk_at dksX0_size_0 20 rfl rfl)
theorem dX0_size_23 : decode cX0_size 23 = .ok (.bipush 10, 2) := dk_16 10 (dk_at dksX0_size_1 0 rfl rfl)
theorem dX0_size_25 : decode cX0_size 25 = .ok (.goto 4, 3) := dk_167 0 4 (dk_at dksX0_size_1 2 rfl rfl)
theorem dX0_size_28 : decode cX0_size 28 = .ok (.iconst 4, 1) := dk_7 (dk_at dksX0_size_1 5 rfl rfl)
theorem dX0_size_29 : decode cX0_size 29 = .ok (.invokestatic 82, 3) := dk_184 0 82 (dk_at dksX0_size_1 6 rfl rfl)
theorem dX0_size_32 : decode cX0_size 32 = .ok (.ifCond .ne 10, 3) := dk_154 0 10 (dk_at dksX0_size_1 9 rfl rfl)
theorem dX0_size_35 : decode cX0_size 35 = .ok (.aload_n 0, 1) := dk_42 (dk_at dksX0_size_1 12 rfl rfl)
theorem dX0_size_36 : decode cX0_size 36 = .ok (.bipush (-2), 2) := dk_16 254 (dk_at dksX0_size_1 13 rfl rfl)
theorem dX0_size_38 : decode cX0_size 38 = .ok (.invokevirtual 79, 3) := dk_182 0 79 (dk_at dksX0_size_1 15 rfl rfl)
theorem dX0_size_41 : decode cX0_size 41 = .ok (.ireturn, 1) := dk_172 (dk_at dksX0_size_1 18 rfl rfl)
theorem dX0_size_42 : decode cX0_size 42 = .ok (.aload_n 0, 1) := dk_42 (dk_at dksX0_size_1 19 rfl rfl)
theorem dX0_size_43 : decode cX0_size 43 = .ok (.getfield 59, 3) := dk_180 0 59 (dk_at dksX0_size_1 20 rfl rfl)
theorem dX0_size_46 : decode cX0_size 46 = .ok (.getfield 85, 3) := dk_180 0 85 (dk_at dksX0_size_2 0 rfl rfl)
theorem dX0_size_49 : decode cX0_size 49 = .ok (.astore 4, 2) := dk_58 4 (dk_at dksX0_size_2 3 rfl rfl)
theorem dX0_size_51 : decode cX0_size 51 = .ok (.iload_n 2, 1) := dk_28 (dk_at dksX0_size_2 5 rfl rfl)
theorem dX0_size_52 : decode cX0_size 52 = .ok (.lookupswitch 104 #[(0, 28), (1, 66)], 28) := by decide +kernel
theorem dX0_size_80 : decode cX0_size 80 = .ok (.iload_n 3, 1) := dk_29 (dk_at dksX0_size_4 0 rfl rfl)
theorem dX0_size_81 : decode cX0_size 81 = .ok (.aload 4, 2) := dk_25 4 (dk_at dksX0_size_4 1 rfl rfl)
theorem dX0_size_83 : decode cX0_size 83 = .ok (.getfield 178, 3) := dk_180 0 178 (dk_at dksX0_size_4 3 rfl rfl)
theorem dX0_size_86 : decode cX0_size 86 = .ok (.iload_n 1, 1) := dk_27 (dk_at dksX0_size_4 6 rfl rfl)
theorem dX0_size_87 : decode cX0_size 87 = .ok (.iaload, 1) := dk_46 (dk_at dksX0_size_4 7 rfl rfl)
theorem dX0_size_88 : decode cX0_size 88 = .ok (.if_icmp .ge 10, 3) := dk_162 0 10 (dk_at dksX0_size_4 8 rfl rfl)
theorem dX0_size_91 : decode cX0_size 91 = .ok (.aload_n 0, 1) := dk_42 (dk_at dksX0_size_4 11 rfl rfl)
theorem dX0_size_92 : decode cX0_size 92 = .ok (.bipush (-5), 2) := dk_16 251 (dk_at dksX0_size_4 12 rfl rfl)
theorem dX0_size_94 : decode cX0_size 94 = .ok (.invokevirtual 79, 3) := dk_182 0 79 (dk_at dksX0_size_4 14 rfl rfl)
theorem dX0_size_97 : decode cX0_size 97 = .ok (.ireturn, 1) := dk_172 (dk_at dksX0_size_4 17 rfl rfl)
theorem dX0_size_98 : decode cX0_size 98 = .ok (.aload 4, 2) := dk_25 4 (dk_at dksX0_size_4 18 rfl rfl)
theorem dX0_size_100 : decode cX0_size 100 = .ok (.getfield 181, 3) := dk_180 0 181 (dk_at dksX0_size_4 20 rfl rfl)
theorem dX0_size_103 : decode cX0_size 103 = .ok (.iload_n 1, 1) := dk_27 (dk_at dksX0_size_4 23 rfl rfl)
theorem dX0_size_104 : decode cX0_size 104 = .ok (.iaload, 1) := dk_46 (dk_at dksX0_size_5 0 rfl rfl)
theorem dX0_size_105 : decode cX0_size 105 = .ok (.istore 5, 2) := dk_54 5 (dk_at dksX0_size_5 1 rfl rfl)
theorem dX0_size_107 : decode cX0_size 107 = .ok (.aload 4, 2) := dk_25 4 (dk_at dksX0_size_5 3 rfl rfl)
theorem dX0_size_109 : decode cX0_size 109 = .ok (.getfield 181, 3) := dk_180 0 181 (dk_at dksX0_size_5 5 rfl rfl)
theorem dX0_size_112 : decode cX0_size 112 = .ok (.iload_n 1, 1) := dk_27 (dk_at dksX0_size_5 8 rfl rfl)
theorem dX0_size_113 : decode cX0_size 113 = .ok (.iload_n 3, 1) := dk_29 (dk_at dksX0_size_5 9 rfl rfl)
theorem dX0_size_114 : decode cX0_size 114 = .ok (.iastore, 1) := dk_79 (dk_at dksX0_size_5 10 rfl rfl)
theorem dX0_size_115 : decode cX0_size 115 = .ok (.goto 58, 3) := dk_167 0 58 (dk_at dksX0_size_5 11 rfl rfl)
theorem dX0_size_118 : decode cX0_size 118 = .ok (.iload_n 3, 1) := dk_29 (dk_at dksX0_size_5 14 rfl rfl)
theorem dX0_size_119 : decode cX0_size 119 = .ok (.aload 4, 2) := dk_25 4 (dk_at dksX0_size_5 15 rfl rfl)
theorem dX0_size_121 : decode cX0_size 121 = .ok (.getfield 181, 3) := dk_180 0 181 (dk_at dksX0_size_5 17 rfl rfl)
theorem dX0_size_124 : decode cX0_size 124 = .ok (.iload_n 1, 1) := dk_27 (dk_at dksX0_size_5 20 rfl rfl)
theorem dX0_size_125 : decode cX0_size 125 = .ok (.iaload, 1) := dk_46 (dk_at dksX0_size_5 21 rfl rfl)
theorem dX0_size_126 : decode cX0_size 126 = .ok (.if_icmp .le 10, 3) := dk_164 0 10 (dk_at dksX0_size_6 0 rfl rfl)
theorem dX0_size_129 : decode cX0_size 129 = .ok (.aload_n 0, 1) := dk_42 (dk_at dksX0_size_6 3 rfl rfl)
theorem dX0_size_130 : decode cX0_size 130 = .ok (.bipush (-5), 2) := dk_16 251 (dk_at dksX0_size_6 4 rfl rfl)
theorem dX0_size_132 : decode cX0_size 132 = .ok (.invokevirtual 79, 3) := dk_182 0 79 (dk_at dksX0_size_6 6 rfl rfl)
theorem dX0_size_135 : decode cX0_size 135 = .ok (.ireturn, 1) := dk_172 (dk_at dksX0_size_6 9 rfl rfl)
theorem dX0_size_136 : decode cX0_size 136 = .ok (.aload 4, 2) := dk_25 4 (dk_at dksX0_size_6 10 rfl rfl)
theorem dX0_size_138 : decode cX0_size 138 = .ok (.getfield 178, 3) := dk_180 0 178 (dk_at dksX0_size_6 12 rfl rfl)
theorem dX0_size_141 : decode cX0_size 141 = .ok (.iload_n 1, 1) := dk_27 (dk_at dksX0_size_6 15 rfl rfl)
theorem dX0_size_142 : decode cX0_size 142 = .ok (.iaload, 1) := dk_46 (dk_at dksX0_size_6 16 rfl rfl)
theorem dX0_size_143 : decode cX0_size 143 = .ok (.istore 5, 2) := dk_54 5 (dk_at dksX0_size_6 17 rfl rfl)
theorem dX0_size_145 : decode cX0_size 145 = .ok (.aload 4, 2) := dk_25 4 (dk_at dksX0_size_6 19 rfl rfl)
theorem dX0_size_147 : decode cX0_size 147 = .ok (.getfield 178, 3) := dk_180 0 178 (dk_at dksX0_size_6 21 rfl rfl)
theorem dX0_size_150 : decode cX0_size 150 = .ok (.iload_n 1, 1) := dk_27 (dk_at dksX0_size_7 0 rfl rfl)
theorem dX0_size_151 : decode cX0_size 151 = .ok (.iload_n 3, 1) := dk_29 (dk_at dksX0_size_7 1 rfl rfl)
theorem dX0_size_152 : decode cX0_size 152 = .ok (.iastore, 1) := dk_79 (dk_at dksX0_size_7 2 rfl rfl)
theorem dX0_size_153 : decode cX0_size 153 = .ok (.goto 20, 3) := dk_167 0 20 (dk_at dksX0_size_7 3 rfl rfl)
theorem dX0_size_156 : decode cX0_size 156 = .ok (.aload 4, 2) := dk_25 4 (dk_at dksX0_size_7 6 rfl rfl)
theorem dX0_size_158 : decode cX0_size 158 = .ok (.getfield 184, 3) := dk_180 0 184 (dk_at dksX0_size_7 8 rfl rfl)
theorem dX0_size_161 : decode cX0_size 161 = .ok (.iload_n 1, 1) := dk_27 (dk_at dksX0_size_7 11 rfl rfl)
theorem dX0_size_162 : decode cX0_size 162 = .ok (.iaload, 1) := dk_46 (dk_at dksX0_size_7 12 rfl rfl)
theorem dX0_size_163 : decode cX0_size 163 = .ok (.istore 5, 2) := dk_54 5 (dk_at dksX0_size_7 13 rfl rfl)
theorem dX0_size_165 : decode cX0_size 165 = .ok (.aload 4, 2) := dk_25 4 (dk_at dksX0_size_7 15 rfl rfl)
theorem dX0_size_167 : decode cX0_size 167 = .ok (.getfield 184, 3) := dk_180 0 184 (dk_at dksX0_size_7 17 rfl rfl)
theorem dX0_size_170 : decode cX0_size 170 = .ok (.iload_n 1, 1) := dk_27 (dk_at dksX0_size_7 20 rfl rfl)
theorem dX0_size_171 : decode cX0_size 171 = .ok (.iload_n 3, 1) := dk_29 (dk_at dksX0_size_7 21 rfl rfl)
theorem dX0_size_172 : decode cX0_size 172 = .ok (.iastore, 1) := dk_79 (dk_at dksX0_size_7 22 rfl rfl)
theorem dX0_size_173 : decode cX0_size 173 = .ok (.iload 5, 2) := dk_21 5 (dk_at dksX0_size_8 0 rfl rfl)
theorem dX0_size_175 : decode cX0_size 175 = .ok (.ireturn, 1) := dk_172 (dk_at dksX0_size_8 2 rfl rfl)
abbrev cX0_isSize : ByteArray := prog_1_method_11_code
def yX0_isSize : MethodName := ⟨RX0, "isSize", "(I)Z"⟩
def dkwX0_isSize_0 : List UInt8 := [26, 3, 5, 184, 0, 82, 172]
abbrev dktX0_isSize_0 : List UInt8 := dkwX0_isSize_0 ++ []
theorem dksX0_isSize_0 : cX0_isSize.data.toList.drop 0 = dktX0_isSize_0 := by decide +kernel
theorem dX0_isSize_0 : decode cX0_isSize 0 = .ok (.iload_n 0, 1) := dk_26 (dk_at dksX0_isSize_0 0 rfl rfl)
theorem dX0_isSize_1 : decode cX0_isSize 1 = .ok (.iconst 0, 1) := dk_3 (dk_at dksX0_isSize_0 1 rfl rfl)
theorem dX0_isSize_2 : decode cX0_isSize 2 = .ok (.iconst 2, 1) := dk_5 (dk_at dksX0_isSize_0 2 rfl rfl)
theorem dX0_isSize_3 : decode cX0_isSize 3 = .ok (.invokestatic 82, 3) := dk_184 0 82 (dk_at dksX0_isSize_0 3 rfl rfl)
theorem dX0_isSize_6 : decode cX0_isSize 6 = .ok (.ireturn, 1) := dk_172 (dk_at dksX0_isSize_0 6 rfl rfl)
abbrev cX0_sort : ByteArray := prog_1_method_29_code
def yX0_sort : MethodName := ⟨RX0, "sort", "(IIII)I"⟩
def dkwX0_sort_3 : List UInt8 := [180, 0, 85, 27, 28, 29, 21, 4, 182, 0, 194, 42, 180, 0, 59, 180, 0, 85, 180, 0, 89, 4, 100, 172]
abbrev dktX0_sort_3 : List UInt8 := dkwX0_sort_3 ++ []
def dkwX0_sort_2 : List UInt8 := [180, 0, 85, 180, 0, 89, 16, 6, 160, 0, 10, 42, 16, 250, 182, 0, 79, 172, 42, 180, 0, 59]
abbrev dktX0_sort_2 : List UInt8 := dkwX0_sort_2 ++ dktX0_sort_3
def dkwX0_sort_1 : List UInt8 := [180, 0, 85, 182, 0, 191, 28, 96, 16, 100, 164, 0, 10, 42, 16, 251, 182, 0, 79, 172, 42, 180, 0, 59]
abbrev dktX0_sort_1 : List UInt8 := dkwX0_sort_1 ++ dktX0_sort_2
def dkwX0_sort_0 : List UInt8 := [27, 28, 29, 21, 4, 184, 0, 187, 154, 0, 10, 42, 16, 254, 182, 0, 79, 172, 42, 180, 0, 59]
abbrev dktX0_sort_0 : List UInt8 := dkwX0_sort_0 ++ dktX0_sort_1
theorem dksX0_sort_0 : cX0_sort.data.toList.drop 0 = dktX0_sort_0 := by decide +kernel
theorem dksX0_sort_1 : cX0_sort.data.toList.drop 22 = dktX0_sort_1 := dk_seg dksX0_sort_0 22 rfl rfl
theorem dksX0_sort_2 : cX0_sort.data.toList.drop 46 = dktX0_sort_2 := dk_seg dksX0_sort_1 24 rfl rfl
theorem dksX0_sort_3 : cX0_sort.data.toList.drop 68 = dktX0_sort_3 := dk_seg dksX0_sort_2 22 rfl rfl
theorem dX0_sort_0 : decode cX0_sort 0 = .ok (.iload_n 1, 1) := dk_27 (dk_at dksX0_sort_0 0 rfl rfl)
theorem dX0_sort_1 : decode cX0_sort 1 = .ok (.iload_n 2, 1) := dk_28 (dk_at dksX0_sort_0 1 rfl rfl)
theorem dX0_sort_2 : decode cX0_sort 2 = .ok (.iload_n 3, 1) := dk_29 (dk_at dksX0_sort_0 2 rfl rfl)
theorem dX0_sort_3 : decode cX0_sort 3 = .ok (.iload 4, 2) := dk_21 4 (dk_at dksX0_sort_0 3 rfl rfl)
theorem dX0_sort_5 : decode cX0_sort 5 = .ok (.invokestatic 187, 3) := dk_184 0 187 (dk_at dksX0_sort_0 5 rfl rfl)
theorem dX0_sort_8 : decode cX0_sort 8 = .ok (.ifCond .ne 10, 3) := dk_154 0 10 (dk_at dksX0_sort_0 8 rfl rfl)
theorem dX0_sort_11 : decode cX0_sort 11 = .ok (.aload_n 0, 1) := dk_42 (dk_at dksX0_sort_0 11 rfl rfl)
theorem dX0_sort_12 : decode cX0_sort 12 = .ok (.bipush (-2), 2) := dk_16 254 (dk_at dksX0_sort_0 12 rfl rfl)
theorem dX0_sort_14 : decode cX0_sort 14 = .ok (.invokevirtual 79, 3) := dk_182 0 79 (dk_at dksX0_sort_0 14 rfl rfl)
theorem dX0_sort_17 : decode cX0_sort 17 = .ok (.ireturn, 1) := dk_172 (dk_at dksX0_sort_0 17 rfl rfl)
theorem dX0_sort_18 : decode cX0_sort 18 = .ok (.aload_n 0, 1) := dk_42 (dk_at dksX0_sort_0 18 rfl rfl)
theorem dX0_sort_19 : decode cX0_sort 19 = .ok (.getfield 59, 3) := dk_180 0 59 (dk_at dksX0_sort_0 19 rfl rfl)
theorem dX0_sort_22 : decode cX0_sort 22 = .ok (.getfield 85, 3) := dk_180 0 85 (dk_at dksX0_sort_1 0 rfl rfl)
theorem dX0_sort_25 : decode cX0_sort 25 = .ok (.invokevirtual 191, 3) := dk_182 0 191 (dk_at dksX0_sort_1 3 rfl rfl)
theorem dX0_sort_28 : decode cX0_sort 28 = .ok (.iload_n 2, 1) := dk_28 (dk_at dksX0_sort_1 6 rfl rfl)
theorem dX0_sort_29 : decode cX0_sort 29 = .ok (.iadd, 1) := dk_96 (dk_at dksX0_sort_1 7 rfl rfl)
theorem dX0_sort_30 : decode cX0_sort 30 = .ok (.bipush 100, 2) := dk_16 100 (dk_at dksX0_sort_1 8 rfl rfl)
theorem dX0_sort_32 : decode cX0_sort 32 = .ok (.if_icmp .le 10, 3) := dk_164 0 10 (dk_at dksX0_sort_1 10 rfl rfl)
theorem dX0_sort_35 : decode cX0_sort 35 = .ok (.aload_n 0, 1) := dk_42 (dk_at dksX0_sort_1 13 rfl rfl)
theorem dX0_sort_36 : decode cX0_sort 36 = .ok (.bipush (-5), 2) := dk_16 251 (dk_at dksX0_sort_1 14 rfl rfl)
theorem dX0_sort_38 : decode cX0_sort 38 = .ok (.invokevirtual 79, 3) := dk_182 0 79 (dk_at dksX0_sort_1 16 rfl rfl)
theorem dX0_sort_41 : decode cX0_sort 41 = .ok (.ireturn, 1) := dk_172 (dk_at dksX0_sort_1 19 rfl rfl)
theorem dX0_sort_42 : decode cX0_sort 42 = .ok (.aload_n 0, 1) := dk_42 (dk_at dksX0_sort_1 20 rfl rfl)
theorem dX0_sort_43 : decode cX0_sort 43 = .ok (.getfield 59, 3) := dk_180 0 59 (dk_at dksX0_sort_1 21 rfl rfl)
theorem dX0_sort_46 : decode cX0_sort 46 = .ok (.getfield 85, 3) := dk_180 0 85 (dk_at dksX0_sort_2 0 rfl rfl)
theorem dX0_sort_49 : decode cX0_sort 49 = .ok (.getfield 89, 3) := dk_180 0 89 (dk_at dksX0_sort_2 3 rfl rfl)
theorem dX0_sort_52 : decode cX0_sort 52 = .ok (.bipush 6, 2) := dk_16 6 (dk_at dksX0_sort_2 6 rfl rfl)
theorem dX0_sort_54 : decode cX0_sort 54 = .ok (.if_icmp .ne 10, 3) := dk_160 0 10 (dk_at dksX0_sort_2 8 rfl rfl)
theorem dX0_sort_57 : decode cX0_sort 57 = .ok (.aload_n 0, 1) := dk_42 (dk_at dksX0_sort_2 11 rfl rfl)
theorem dX0_sort_58 : decode cX0_sort 58 = .ok (.bipush (-6), 2) := dk_16 250 (dk_at dksX0_sort_2 12 rfl rfl)
theorem dX0_sort_60 : decode cX0_sort 60 = .ok (.invokevirtual 79, 3) := dk_182 0 79 (dk_at dksX0_sort_2 14 rfl rfl)
theorem dX0_sort_63 : decode cX0_sort 63 = .ok (.ireturn, 1) := dk_172 (dk_at dksX0_sort_2 17 rfl rfl)
theorem dX0_sort_64 : decode cX0_sort 64 = .ok (.aload_n 0, 1) := dk_42 (dk_at dksX0_sort_2 18 rfl rfl)
theorem dX0_sort_65 : decode cX0_sort 65 = .ok (.getfield 59, 3) := dk_180 0 59 (dk_at dksX0_sort_2 19 rfl rfl)
theorem dX0_sort_68 : decode cX0_sort 68 = .ok (.getfield 85, 3) := dk_180 0 85 (dk_at dksX0_sort_3 0 rfl rfl)
theorem dX0_sort_71 : decode cX0_sort 71 = .ok (.iload_n 1, 1) := dk_27 (dk_at dksX0_sort_3 3 rfl rfl)
theorem dX0_sort_72 : decode cX0_sort 72 = .ok (.iload_n 2, 1) := dk_28 (dk_at dksX0_sort_3 4 rfl rfl)
theorem dX0_sort_73 : decode cX0_sort 73 = .ok (.iload_n 3, 1) := dk_29 (dk_at dksX0_sort_3 5 rfl rfl)
theorem dX0_sort_74 : decode cX0_sort 74 = .ok (.iload 4, 2) := dk_21 4 (dk_at dksX0_sort_3 6 rfl rfl)
theorem dX0_sort_76 : decode cX0_sort 76 = .ok (.invokevirtual 194, 3) := dk_182 0 194 (dk_at dksX0_sort_3 8 rfl rfl)
theorem dX0_sort_79 : decode cX0_sort 79 = .ok (.aload_n 0, 1) := dk_42 (dk_at dksX0_sort_3 11 rfl rfl)
theorem dX0_sort_80 : decode cX0_sort 80 = .ok (.getfield 59, 3) := dk_180 0 59 (dk_at dksX0_sort_3 12 rfl rfl)
theorem dX0_sort_83 : decode cX0_sort 83 = .ok (.getfield 85, 3) := dk_180 0 85 (dk_at dksX0_sort_3 15 rfl rfl)
theorem dX0_sort_86 : decode cX0_sort 86 = .ok (.getfield 89, 3) := dk_180 0 89 (dk_at dksX0_sort_3 18 rfl rfl)
theorem dX0_sort_89 : decode cX0_sort 89 = .ok (.iconst 1, 1) := dk_4 (dk_at dksX0_sort_3 21 rfl rfl)
theorem dX0_sort_90 : decode cX0_sort 90 = .ok (.isub, 1) := dk_100 (dk_at dksX0_sort_3 22 rfl rfl)
theorem dX0_sort_91 : decode cX0_sort 91 = .ok (.ireturn, 1) := dk_172 (dk_at dksX0_sort_3 23 rfl rfl)
abbrev cX0_mayBe : ByteArray := prog_1_method_28_code
def yX0_mayBe : MethodName := ⟨RX0, "mayBe", "(IIII)Z"⟩
def dkwX0_mayBe_1 : List UInt8 := [153, 0, 17, 29, 3, 16, 99, 184, 0, 82, 153, 0, 7, 4, 167, 0, 4, 3, 172]
abbrev dktX0_mayBe_1 : List UInt8 := dkwX0_mayBe_1 ++ []
def dkwX0_mayBe_0 : List UInt8 := [26, 184, 0, 175, 153, 0, 37, 27, 3, 16, 100, 184, 0, 82, 153, 0, 27, 28, 4, 16, 99, 184, 0, 82]
abbrev dktX0_mayBe_0 : List UInt8 := dkwX0_mayBe_0 ++ dktX0_mayBe_1
theorem dksX0_mayBe_0 : cX0_mayBe.data.toList.drop 0 = dktX0_mayBe_0 := by decide +kernel
theorem dksX0_mayBe_1 : cX0_mayBe.data.toList.drop 24 = dktX0_mayBe_1 := dk_seg dksX0_mayBe_0 24 rfl rfl
theorem dX0_mayBe_0 : decode cX0_mayBe 0 = .ok (.iload_n 0, 1) := dk_26 (dk_at dksX0_mayBe_0 0 rfl rfl)
theorem dX0_mayBe_1 : decode cX0_mayBe 1 = .ok (.invokestatic 175, 3) := dk_184 0 175 (dk_at dksX0_mayBe_0 1 rfl rfl)
theorem dX0_mayBe_4 : decode cX0_mayBe 4 = .ok (.ifCond .eq 37, 3) := dk_153 0 37 (dk_at dksX0_mayBe_0 4 rfl rfl)
theorem dX0_mayBe_7 : decode cX0_mayBe 7 = .ok (.iload_n 1, 1) := dk_27 (dk_at dksX0_mayBe_0 7 rfl rfl)
theorem dX0_mayBe_8 : decode cX0_mayBe 8 = .ok (.iconst 0, 1) := dk_3 (dk_at dksX0_mayBe_0 8 rfl rfl)
theorem dX0_mayBe_9 : decode cX0_mayBe 9 = .ok (.bipush 100, 2) := dk_16 100 (dk_at dksX0_mayBe_0 9 rfl rfl)
theorem dX0_mayBe_11 : decode cX0_mayBe 11 = .ok (.invokestatic 82, 3) := dk_184 0 82 (dk_at dksX0_mayBe_0 11 rfl rfl)
theorem dX0_mayBe_14 : decode cX0_mayBe 14 = .ok (.ifCond .eq 27, 3) := dk_153 0 27 (dk_at dksX0_mayBe_0 14 rfl rfl)
theorem dX0_mayBe_17 : decode cX0_mayBe 17 = .ok (.iload_n 2, 1) := dk_28 (dk_at dksX0_mayBe_0 17 rfl rfl)
theorem dX0_mayBe_18 : decode cX0_mayBe 18 = .ok (.iconst 1, 1) := dk_4 (dk_at dksX0_mayBe_0 18 rfl rfl)
theorem dX0_mayBe_19 : decode cX0_mayBe 19 = .ok (.bipush 99, 2) := dk_16 99 (dk_at dksX0_mayBe_0 19 rfl rfl)
theorem dX0_mayBe_21 : decode cX0_mayBe 21 = .ok (.invokestatic 82, 3) := dk_184 0 82 (dk_at dksX0_mayBe_0 21 rfl rfl)
theorem dX0_mayBe_24 : decode cX0_mayBe 24 = .ok (.ifCond .eq 17, 3) := dk_153 0 17 (dk_at dksX0_mayBe_1 0 rfl rfl)
theorem dX0_mayBe_27 : decode cX0_mayBe 27 = .ok (.iload_n 3, 1) := dk_29 (dk_at dksX0_mayBe_1 3 rfl rfl)
theorem dX0_mayBe_28 : decode cX0_mayBe 28 = .ok (.iconst 0, 1) := dk_3 (dk_at dksX0_mayBe_1 4 rfl rfl)
theorem dX0_mayBe_29 : decode cX0_mayBe 29 = .ok (.bipush 99, 2) := dk_16 99 (dk_at dksX0_mayBe_1 5 rfl rfl)
theorem dX0_mayBe_31 : decode cX0_mayBe 31 = .ok (.invokestatic 82, 3) := dk_184 0 82 (dk_at dksX0_mayBe_1 7 rfl rfl)
theorem dX0_mayBe_34 : decode cX0_mayBe 34 = .ok (.ifCond .eq 7, 3) := dk_153 0 7 (dk_at dksX0_mayBe_1 10 rfl rfl)
theorem dX0_mayBe_37 : decode cX0_mayBe 37 = .ok (.iconst 1, 1) := dk_4 (dk_at dksX0_mayBe_1 13 rfl rfl)
theorem dX0_mayBe_38 : decode cX0_mayBe 38 = .ok (.goto 4, 3) := dk_167 0 4 (dk_at dksX0_mayBe_1 14 rfl rfl)
theorem dX0_mayBe_41 : decode cX0_mayBe 41 = .ok (.iconst 0, 1) := dk_3 (dk_at dksX0_mayBe_1 17 rfl rfl)
theorem dX0_mayBe_42 : decode cX0_mayBe 42 = .ok (.ireturn, 1) := dk_172 (dk_at dksX0_mayBe_1 18 rfl rfl)
abbrev cX0_sorts : ByteArray := prog_1_method_31_code
def yX0_sorts : MethodName := ⟨RX0, "sorts", "(II)I"⟩
def dkwX0_sorts_8 : List UInt8 := [180, 0, 133, 182, 0, 79, 172, 78, 42, 16, 254, 182, 0, 79, 172]
abbrev dktX0_sorts_8 : List UInt8 := dkwX0_sorts_8 ++ []
def dkwX0_sorts_7 : List UInt8 := [21, 4, 6, 96, 184, 0, 200, 182, 0, 194, 132, 4, 4, 167, 255, 131, 28, 7, 108, 172, 78, 42, 45]
abbrev dktX0_sorts_7 : List UInt8 := dkwX0_sorts_7 ++ dktX0_sorts_8
def dkwX0_sorts_6 : List UInt8 := [180, 0, 59, 180, 0, 85, 45, 21, 4, 184, 0, 200, 21, 5, 45, 21, 4, 5, 96, 184, 0, 200, 45]
abbrev dktX0_sorts_6 : List UInt8 := dkwX0_sorts_6 ++ dktX0_sorts_7
def dkwX0_sorts_5 : List UInt8 := [163, 0, 18, 42, 180, 0, 59, 180, 0, 85, 180, 0, 89, 16, 6, 160, 0, 8, 21, 4, 7, 108, 172, 42]
abbrev dktX0_sorts_5 : List UInt8 := dkwX0_sorts_5 ++ dktX0_sorts_6
def dkwX0_sorts_4 : List UInt8 := [54, 6, 21, 6, 153, 0, 36, 42, 180, 0, 59, 180, 0, 85, 182, 0, 191, 21, 5, 96, 16, 100]
abbrev dktX0_sorts_4 : List UInt8 := dkwX0_sorts_4 ++ dktX0_sorts_5
def dkwX0_sorts_3 : List UInt8 := [184, 0, 200, 21, 5, 45, 21, 4, 5, 96, 184, 0, 200, 45, 21, 4, 6, 96, 184, 0, 200, 184, 0, 187]
abbrev dktX0_sorts_3 : List UInt8 := dkwX0_sorts_3 ++ dktX0_sorts_4
def dkwX0_sorts_2 : List UInt8 := [88, 3, 54, 4, 21, 4, 28, 162, 0, 125, 45, 21, 4, 4, 96, 184, 0, 200, 54, 5, 45, 21, 4]
abbrev dktX0_sorts_2 : List UInt8 := dkwX0_sorts_2 ++ dktX0_sorts_3
def dkwX0_sorts_1 : List UInt8 := [28, 7, 112, 153, 0, 10, 42, 16, 254, 182, 0, 79, 172, 28, 158, 0, 11, 45, 28, 4, 100, 184, 0, 150]
abbrev dktX0_sorts_1 : List UInt8 := dkwX0_sorts_1 ++ dktX0_sorts_2
def dkwX0_sorts_0 : List UInt8 := [27, 184, 0, 106, 154, 0, 10, 42, 16, 254, 182, 0, 79, 172, 42, 27, 182, 0, 125, 78, 28, 155, 0, 9]
abbrev dktX0_sorts_0 : List UInt8 := dkwX0_sorts_0 ++ dktX0_sorts_1
theorem dksX0_sorts_0 : cX0_sorts.data.toList.drop 0 = dktX0_sorts_0 := by decide +kernel
theorem dksX0_sorts_1 : cX0_sorts.data.toList.drop 24 = dktX0_sorts_1 := dk_seg dksX0_sorts_0 24 rfl rfl
theorem dksX0_sorts_2 : cX0_sorts.data.toList.drop 48 = dktX0_sorts_2 := dk_seg dksX0_sorts_1 24 rfl rfl
theorem dksX0_sorts_3 : cX0_sorts.data.toList.drop 71 = dktX0_sorts_3 := dk_seg dksX0_sorts_2 23 rfl rfl
theorem dksX0_sorts_4 : cX0_sorts.data.toList.drop 95 = dktX0_sorts_4 := dk_seg dksX0_sorts_3 24 rfl rfl
theorem dksX0_sorts_5 : cX0_sorts.data.toList.drop 117 = dktX0_sorts_5 := dk_seg dksX0_sorts_4 22 rfl rfl
theorem dksX0_sorts_6 : cX0_sorts.data.toList.drop 141 = dktX0_sorts_6 := dk_seg dksX0_sorts_5 24 rfl rfl
theorem dksX0_sorts_7 : cX0_sorts.data.toList.drop 164 = dktX0_sorts_7 := dk_seg dksX0_sorts_6 23 rfl rfl
theorem dksX0_sorts_8 : cX0_sorts.data.toList.drop 187 = dktX0_sorts_8 := dk_seg dksX0_sorts_7 23 rfl rfl
theorem dX0_sorts_0 : decode cX0_sorts 0 = .ok (.iload_n 1, 1) := dk_27 (dk_at dksX0_sorts_0 0 rfl rfl)
theorem dX0_sorts_1 : decode cX0_sorts 1 = .ok (.invokestatic 106, 3) := dk_184 0 106 (dk_at dksX0_sorts_0 1 rfl rfl)
theorem dX0_sorts_4 : decode cX0_sorts 4 = .ok (.ifCond .ne 10, 3) := dk_154 0 10 (dk_at dksX0_sorts_0 4 rfl rfl)
theorem dX0_sorts_7 : decode cX0_sorts 7 = .ok (.aload_n 0, 1) := dk_42 (dk_at dksX0_sorts_0 7 rfl rfl)
theorem dX0_sorts_8 : decode cX0_sorts 8 = .ok (.bipush (-2), 2) := dk_16 254 (dk_at dksX0_sorts_0 8 rfl rfl)
theorem dX0_sorts_10 : decode cX0_sorts 10 = .ok (.invokevirtual 79, 3) := dk_182 0 79 (dk_at dksX0_sorts_0 10 rfl rfl)
theorem dX0_sorts_13 : decode cX0_sorts 13 = .ok (.ireturn, 1) := dk_172 (dk_at dksX0_sorts_0 13 rfl rfl)
theorem dX0_sorts_14 : decode cX0_sorts 14 = .ok (.aload_n 0, 1) := dk_42 (dk_at dksX0_sorts_0 14 rfl rfl)
theorem dX0_sorts_15 : decode cX0_sorts 15 = .ok (.iload_n 1, 1) := dk_27 (dk_at dksX0_sorts_0 15 rfl rfl)
theorem dX0_sorts_16 : decode cX0_sorts 16 = .ok (.invokevirtual 125, 3) := dk_182 0 125 (dk_at dksX0_sorts_0 16 rfl rfl)
theorem dX0_sorts_19 : decode cX0_sorts 19 = .ok (.astore_n 3, 1) := dk_78 (dk_at dksX0_sorts_0 19 rfl rfl)
theorem dX0_sorts_20 : decode cX0_sorts 20 = .ok (.iload_n 2, 1) := dk_28 (dk_at dksX0_sorts_0 20 rfl rfl)
theorem dX0_sorts_21 : decode cX0_sorts 21 = .ok (.ifCond .lt 9, 3) := dk_155 0 9 (dk_at dksX0_sorts_0 21 rfl rfl)
theorem dX0_sorts_24 : decode cX0_sorts 24 = .ok (.iload_n 2, 1) := dk_28 (dk_at dksX0_sorts_1 0 rfl rfl)
theorem dX0_sorts_25 : decode cX0_sorts 25 = .ok (.iconst 4, 1) := dk_7 (dk_at dksX0_sorts_1 1 rfl rfl)
theorem dX0_sorts_26 : decode cX0_sorts 26 = .ok (.irem, 1) := dk_112 (dk_at dksX0_sorts_1 2 rfl rfl)
theorem dX0_sorts_27 : decode cX0_sorts 27 = .ok (.ifCond .eq 10, 3) := dk_153 0 10 (dk_at dksX0_sorts_1 3 rfl rfl)
theorem dX0_sorts_30 : decode cX0_sorts 30 = .ok (.aload_n 0, 1) := dk_42 (dk_at dksX0_sorts_1 6 rfl rfl)
theorem dX0_sorts_31 : decode cX0_sorts 31 = .ok (.bipush (-2), 2) := dk_16 254 (dk_at dksX0_sorts_1 7 rfl rfl)
theorem dX0_sorts_33 : decode cX0_sorts 33 = .ok (.invokevirtual 79, 3) := dk_182 0 79 (dk_at dksX0_sorts_1 9 rfl rfl)
theorem dX0_sorts_36 : decode cX0_sorts 36 = .ok (.ireturn, 1) := dk_172 (dk_at dksX0_sorts_1 12 rfl rfl)
theorem dX0_sorts_37 : decode cX0_sorts 37 = .ok (.iload_n 2, 1) := dk_28 (dk_at dksX0_sorts_1 13 rfl rfl)
theorem dX0_sorts_38 : decode cX0_sorts 38 = .ok (.ifCond .le 11, 3) := dk_158 0 11 (dk_at dksX0_sorts_1 14 rfl rfl)
theorem dX0_sorts_41 : decode cX0_sorts 41 = .ok (.aload_n 3, 1) := dk_45 (dk_at dksX0_sorts_1 17 rfl rfl)
theorem dX0_sorts_42 : decode cX0_sorts 42 = .ok (.iload_n 2, 1) := dk_28 (dk_at dksX0_sorts_1 18 rfl rfl)
theorem dX0_sorts_43 : decode cX0_sorts 43 = .ok (.iconst 1, 1) := dk_4 (dk_at dksX0_sorts_1 19 rfl rfl)
theorem dX0_sorts_44 : decode cX0_sorts 44 = .ok (.isub, 1) := dk_100 (dk_at dksX0_sorts_1 20 rfl rfl)
theorem dX0_sorts_45 : decode cX0_sorts 45 = .ok (.invokestatic 150, 3) := dk_184 0 150 (dk_at dksX0_sorts_1 21 rfl rfl)
theorem dX0_sorts_48 : decode cX0_sorts 48 = .ok (.pop2, 1) := dk_88 (dk_at dksX0_sorts_2 0 rfl rfl)
theorem dX0_sorts_49 : decode cX0_sorts 49 = .ok (.iconst 0, 1) := dk_3 (dk_at dksX0_sorts_2 1 rfl rfl)
theorem dX0_sorts_50 : decode cX0_sorts 50 = .ok (.istore 4, 2) := dk_54 4 (dk_at dksX0_sorts_2 2 rfl rfl)
theorem dX0_sorts_52 : decode cX0_sorts 52 = .ok (.iload 4, 2) := dk_21 4 (dk_at dksX0_sorts_2 4 rfl rfl)
theorem dX0_sorts_54 : decode cX0_sorts 54 = .ok (.iload_n 2, 1) := dk_28 (dk_at dksX0_sorts_2 6 rfl rfl)
theorem dX0_sorts_55 : decode cX0_sorts 55 = .ok (.if_icmp .ge 125, 3) := dk_162 0 125 (dk_at dksX0_sorts_2 7 rfl rfl)
theorem dX0_sorts_58 : decode cX0_sorts 58 = .ok (.aload_n 3, 1) := dk_45 (dk_at dksX0_sorts_2 10 rfl rfl)
theorem dX0_sorts_59 : decode cX0_sorts 59 = .ok (.iload 4, 2) := dk_21 4 (dk_at dksX0_sorts_2 11 rfl rfl)
theorem dX0_sorts_61 : decode cX0_sorts 61 = .ok (.iconst 1, 1) := dk_4 (dk_at dksX0_sorts_2 13 rfl rfl)
theorem dX0_sorts_62 : decode cX0_sorts 62 = .ok (.iadd, 1) := dk_96 (dk_at dksX0_sorts_2 14 rfl rfl)
theorem dX0_sorts_63 : decode cX0_sorts 63 = .ok (.invokestatic 200, 3) := dk_184 0 200 (dk_at dksX0_sorts_2 15 rfl rfl)
theorem dX0_sorts_66 : decode cX0_sorts 66 = .ok (.istore 5, 2) := dk_54 5 (dk_at dksX0_sorts_2 18 rfl rfl)
theorem dX0_sorts_68 : decode cX0_sorts 68 = .ok (.aload_n 3, 1) := dk_45 (dk_at dksX0_sorts_2 20 rfl rfl)
theorem dX0_sorts_69 : decode cX0_sorts 69 = .ok (.iload 4, 2) := dk_21 4 (dk_at dksX0_sorts_2 21 rfl rfl)
theorem dX0_sorts_71 : decode cX0_sorts 71 = .ok (.invokestatic 200, 3) := dk_184 0 200 (dk_at dksX0_sorts_3 0 rfl rfl)
theorem dX0_sorts_74 : decode cX0_sorts 74 = .ok (.iload 5, 2) := dk_21 5 (dk_at dksX0_sorts_3 3 rfl rfl)
theorem dX0_sorts_76 : decode cX0_sorts 76 = .ok (.aload_n 3, 1) := dk_45 (dk_at dksX0_sorts_3 5 rfl rfl)
theorem dX0_sorts_77 : decode cX0_sorts 77 = .ok (.iload 4, 2) := dk_21 4 (dk_at dksX0_sorts_3 6 rfl rfl)
theorem dX0_sorts_79 : decode cX0_sorts 79 = .ok (.iconst 2, 1) := dk_5 (dk_at dksX0_sorts_3 8 rfl rfl)
theorem dX0_sorts_80 : decode cX0_sorts 80 = .ok (.iadd, 1) := dk_96 (dk_at dksX0_sorts_3 9 rfl rfl)
theorem dX0_sorts_81 : decode cX0_sorts 81 = .ok (.invokestatic 200, 3) := dk_184 0 200 (dk_at dksX0_sorts_3 10 rfl rfl)
theorem dX0_sorts_84 : decode cX0_sorts 84 = .ok (.aload_n 3, 1) := dk_45 (dk_at dksX0_sorts_3 13 rfl rfl)
theorem dX0_sorts_85 : decode cX0_sorts 85 = .ok (.iload 4, 2) := dk_21 4 (dk_at dksX0_sorts_3 14 rfl rfl)
theorem dX0_sorts_87 : decode cX0_sorts 87 = .ok (.iconst 3, 1) := dk_6 (dk_at dksX0_sorts_3 16 rfl rfl)
theorem dX0_sorts_88 : decode cX0_sorts 88 = .ok (.iadd, 1) := dk_96 (dk_at dksX0_sorts_3 17 rfl rfl)
theorem dX0_sorts_89 : decode cX0_sorts 89 = .ok (.invokestatic 200, 3) := dk_184 0 200 (dk_at dksX0_sorts_3 18 rfl rfl)
theorem dX0_sorts_92 : decode cX0_sorts 92 = .ok (.invokestatic 187, 3) := dk_184 0 187 (dk_at dksX0_sorts_3 21 rfl rfl)
theorem dX0_sorts_95 : decode cX0_sorts 95 = .ok (.istore 6, 2) := dk_54 6 (dk_at dksX0_sorts_4 0 rfl rfl)
theorem dX0_sorts_97 : decode cX0_sorts 97 = .ok (.iload 6, 2) := dk_21 6 (dk_at dksX0_sorts_4 2 rfl rfl)
theorem dX0_sorts_99 : decode cX0_sorts 99 = .ok (.ifCond .eq 36, 3) := dk_153 0 36 (dk_at dksX0_sorts_4 4 rfl rfl)
theorem dX0_sorts_102 : decode cX0_sorts 102 = .ok (.aload_n 0, 1) := dk_42 (dk_at dksX0_sorts_4 7 rfl rfl)
theorem dX0_sorts_103 : decode cX0_sorts 103 = .ok (.getfield 59, 3) := dk_180 0 59 (dk_at dksX0_sorts_4 8 rfl rfl)
theorem dX0_sorts_106 : decode cX0_sorts 106 = .ok (.getfield 85, 3) := dk_180 0 85 (dk_at dksX0_sorts_4 11 rfl rfl)
theorem dX0_sorts_109 : decode cX0_sorts 109 = .ok (.invokevirtual 191, 3) := dk_182 0 191 (dk_at dksX0_sorts_4 14 rfl rfl)
theorem dX0_sorts_112 : decode cX0_sorts 112 = .ok (.iload 5, 2) := dk_21 5 (dk_at dksX0_sorts_4 17 rfl rfl)
theorem dX0_sorts_114 : decode cX0_sorts 114 = .ok (.iadd, 1) := dk_96 (dk_at dksX0_sorts_4 19 rfl rfl)
theorem dX0_sorts_115 : decode cX0_sorts 115 = .ok (.bipush 100, 2) := dk_16 100 (dk_at dksX0_sorts_4 20 rfl rfl)
theorem dX0_sorts_117 : decode cX0_sorts 117 = .ok (.if_icmp .gt 18, 3) := dk_163 0 18 (dk_at dksX0_sorts_5 0 rfl rfl)
theorem dX0_sorts_120 : decode cX0_sorts 120 = .ok (.aload_n 0, 1) := dk_42 (dk_at dksX0_sorts_5 3 rfl rfl)
theorem dX0_sorts_121 : decode cX0_sorts 121 = .ok (.getfield 59, 3) := dk_180 0 59 (dk_at dksX0_sorts_5 4 rfl rfl)
theorem dX0_sorts_124 : decode cX0_sorts 124 = .ok (.getfield 85, 3) := dk_180 0 85 (dk_at dksX0_sorts_5 7 rfl rfl)
theorem dX0_sorts_127 : decode cX0_sorts 127 = .ok (.getfield 89, 3) := dk_180 0 89 (dk_at dksX0_sorts_5 10 rfl rfl)
theorem dX0_sorts_130 : decode cX0_sorts 130 = .ok (.bipush 6, 2) := dk_16 6 (dk_at dksX0_sorts_5 13 rfl rfl)
theorem dX0_sorts_132 : decode cX0_sorts 132 = .ok (.if_icmp .ne 8, 3) := dk_160 0 8 (dk_at dksX0_sorts_5 15 rfl rfl)
theorem dX0_sorts_135 : decode cX0_sorts 135 = .ok (.iload 4, 2) := dk_21 4 (dk_at dksX0_sorts_5 18 rfl rfl)
theorem dX0_sorts_137 : decode cX0_sorts 137 = .ok (.iconst 4, 1) := dk_7 (dk_at dksX0_sorts_5 20 rfl rfl)
theorem dX0_sorts_138 : decode cX0_sorts 138 = .ok (.idiv, 1) := dk_108 (dk_at dksX0_sorts_5 21 rfl rfl)
theorem dX0_sorts_139 : decode cX0_sorts 139 = .ok (.ireturn, 1) := dk_172 (dk_at dksX0_sorts_5 22 rfl rfl)
theorem dX0_sorts_140 : decode cX0_sorts 140 = .ok (.aload_n 0, 1) := dk_42 (dk_at dksX0_sorts_5 23 rfl rfl)
theorem dX0_sorts_141 : decode cX0_sorts 141 = .ok (.getfield 59, 3) := dk_180 0 59 (dk_at dksX0_sorts_6 0 rfl rfl)
theorem dX0_sorts_144 : decode cX0_sorts 144 = .ok (.getfield 85, 3) := dk_180 0 85 (dk_at dksX0_sorts_6 3 rfl rfl)
theorem dX0_sorts_147 : decode cX0_sorts 147 = .ok (.aload_n 3, 1) := dk_45 (dk_at dksX0_sorts_6 6 rfl rfl)
theorem dX0_sorts_148 : decode cX0_sorts 148 = .ok (.iload 4, 2) := dk_21 4 (dk_at dksX0_sorts_6 7 rfl rfl)
theorem dX0_sorts_150 : decode cX0_sorts 150 = .ok (.invokestatic 200, 3) := dk_184 0 200 (dk_at dksX0_sorts_6 9 rfl rfl)
theorem dX0_sorts_153 : decode cX0_sorts 153 = .ok (.iload 5, 2) := dk_21 5 (dk_at dksX0_sorts_6 12 rfl rfl)
theorem dX0_sorts_155 : decode cX0_sorts 155 = .ok (.aload_n 3, 1) := dk_45 (dk_at dksX0_sorts_6 14 rfl rfl)
theorem dX0_sorts_156 : decode cX0_sorts 156 = .ok (.iload 4, 2) := dk_21 4 (dk_at dksX0_sorts_6 15 rfl rfl)
theorem dX0_sorts_158 : decode cX0_sorts 158 = .ok (.iconst 2, 1) := dk_5 (dk_at dksX0_sorts_6 17 rfl rfl)
theorem dX0_sorts_159 : decode cX0_sorts 159 = .ok (.iadd, 1) := dk_96 (dk_at dksX0_sorts_6 18 rfl rfl)
theorem dX0_sorts_160 : decode cX0_sorts 160 = .ok (.invokestatic 200, 3) := dk_184 0 200 (dk_at dksX0_sorts_6 19 rfl rfl)
theorem dX0_sorts_163 : decode cX0_sorts 163 = .ok (.aload_n 3, 1) := dk_45 (dk_at dksX0_sorts_6 22 rfl rfl)
theorem dX0_sorts_164 : decode cX0_sorts 164 = .ok (.iload 4, 2) := dk_21 4 (dk_at dksX0_sorts_7 0 rfl rfl)
theorem dX0_sorts_166 : decode cX0_sorts 166 = .ok (.iconst 3, 1) := dk_6 (dk_at dksX0_sorts_7 2 rfl rfl)
theorem dX0_sorts_167 : decode cX0_sorts 167 = .ok (.iadd, 1) := dk_96 (dk_at dksX0_sorts_7 3 rfl rfl)
theorem dX0_sorts_168 : decode cX0_sorts 168 = .ok (.invokestatic 200, 3) := dk_184 0 200 (dk_at dksX0_sorts_7 4 rfl rfl)
theorem dX0_sorts_171 : decode cX0_sorts 171 = .ok (.invokevirtual 194, 3) := dk_182 0 194 (dk_at dksX0_sorts_7 7 rfl rfl)
theorem dX0_sorts_174 : decode cX0_sorts 174 = .ok (.iinc 4 4, 3) := dk_132 4 4 (dk_at dksX0_sorts_7 10 rfl rfl)
theorem dX0_sorts_177 : decode cX0_sorts 177 = .ok (.goto (-125), 3) := dk_167 255 131 (dk_at dksX0_sorts_7 13 rfl rfl)
theorem dX0_sorts_180 : decode cX0_sorts 180 = .ok (.iload_n 2, 1) := dk_28 (dk_at dksX0_sorts_7 16 rfl rfl)
theorem dX0_sorts_181 : decode cX0_sorts 181 = .ok (.iconst 4, 1) := dk_7 (dk_at dksX0_sorts_7 17 rfl rfl)
theorem dX0_sorts_182 : decode cX0_sorts 182 = .ok (.idiv, 1) := dk_108 (dk_at dksX0_sorts_7 18 rfl rfl)
theorem dX0_sorts_183 : decode cX0_sorts 183 = .ok (.ireturn, 1) := dk_172 (dk_at dksX0_sorts_7 19 rfl rfl)
theorem dX0_sorts_184 : decode cX0_sorts 184 = .ok (.astore_n 3, 1) := dk_78 (dk_at dksX0_sorts_7 20 rfl rfl)
theorem dX0_sorts_185 : decode cX0_sorts 185 = .ok (.aload_n 0, 1) := dk_42 (dk_at dksX0_sorts_7 21 rfl rfl)
theorem dX0_sorts_186 : decode cX0_sorts 186 = .ok (.aload_n 3, 1) := dk_45 (dk_at dksX0_sorts_7 22 rfl rfl)
theorem dX0_sorts_187 : decode cX0_sorts 187 = .ok (.getfield 133, 3) := dk_180 0 133 (dk_at dksX0_sorts_8 0 rfl rfl)
theorem dX0_sorts_190 : decode cX0_sorts 190 = .ok (.invokevirtual 79, 3) := dk_182 0 79 (dk_at dksX0_sorts_8 3 rfl rfl)
theorem dX0_sorts_193 : decode cX0_sorts 193 = .ok (.ireturn, 1) := dk_172 (dk_at dksX0_sorts_8 6 rfl rfl)
theorem dX0_sorts_194 : decode cX0_sorts 194 = .ok (.astore_n 3, 1) := dk_78 (dk_at dksX0_sorts_8 7 rfl rfl)
theorem dX0_sorts_195 : decode cX0_sorts 195 = .ok (.aload_n 0, 1) := dk_42 (dk_at dksX0_sorts_8 8 rfl rfl)
theorem dX0_sorts_196 : decode cX0_sorts 196 = .ok (.bipush (-2), 2) := dk_16 254 (dk_at dksX0_sorts_8 9 rfl rfl)
theorem dX0_sorts_198 : decode cX0_sorts 198 = .ok (.invokevirtual 79, 3) := dk_182 0 79 (dk_at dksX0_sorts_8 11 rfl rfl)
theorem dX0_sorts_201 : decode cX0_sorts 201 = .ok (.ireturn, 1) := dk_172 (dk_at dksX0_sorts_8 14 rfl rfl)
abbrev cX0_part : ByteArray := prog_1_method_30_code
def yX0_part : MethodName := ⟨RX0, "part", "(Ljava/lang/Object;I)I"⟩
def dkwX0_part_1 : List UInt8 := [32, 136, 172]
abbrev dktX0_part_1 : List UInt8 := dkwX0_part_1 ++ []
def dkwX0_part_0 : List UInt8 := [42, 27, 184, 0, 150, 65, 32, 9, 148, 155, 0, 11, 32, 20, 0, 198, 148, 158, 0, 7, 2, 167, 0, 5]
abbrev dktX0_part_0 : List UInt8 := dkwX0_part_0 ++ dktX0_part_1
theorem dksX0_part_0 : cX0_part.data.toList.drop 0 = dktX0_part_0 := by decide +kernel
theorem dksX0_part_1 : cX0_part.data.toList.drop 24 = dktX0_part_1 := dk_seg dksX0_part_0 24 rfl rfl
theorem dX0_part_0 : decode cX0_part 0 = .ok (.aload_n 0, 1) := dk_42 (dk_at dksX0_part_0 0 rfl rfl)
theorem dX0_part_1 : decode cX0_part 1 = .ok (.iload_n 1, 1) := dk_27 (dk_at dksX0_part_0 1 rfl rfl)
theorem dX0_part_2 : decode cX0_part 2 = .ok (.invokestatic 150, 3) := dk_184 0 150 (dk_at dksX0_part_0 2 rfl rfl)
theorem dX0_part_5 : decode cX0_part 5 = .ok (.lstore_n 2, 1) := dk_65 (dk_at dksX0_part_0 5 rfl rfl)
theorem dX0_part_6 : decode cX0_part 6 = .ok (.lload_n 2, 1) := dk_32 (dk_at dksX0_part_0 6 rfl rfl)
theorem dX0_part_7 : decode cX0_part 7 = .ok (.lconst 0, 1) := dk_9 (dk_at dksX0_part_0 7 rfl rfl)
theorem dX0_part_8 : decode cX0_part 8 = .ok (.lcmp, 1) := dk_148 (dk_at dksX0_part_0 8 rfl rfl)
theorem dX0_part_9 : decode cX0_part 9 = .ok (.ifCond .lt 11, 3) := dk_155 0 11 (dk_at dksX0_part_0 9 rfl rfl)
theorem dX0_part_12 : decode cX0_part 12 = .ok (.lload_n 2, 1) := dk_32 (dk_at dksX0_part_0 12 rfl rfl)
theorem dX0_part_13 : decode cX0_part 13 = .ok (.ldc2_w 198, 3) := dk_20 0 198 (dk_at dksX0_part_0 13 rfl rfl)
theorem dX0_part_16 : decode cX0_part 16 = .ok (.lcmp, 1) := dk_148 (dk_at dksX0_part_0 16 rfl rfl)
theorem dX0_part_17 : decode cX0_part 17 = .ok (.ifCond .le 7, 3) := dk_158 0 7 (dk_at dksX0_part_0 17 rfl rfl)
theorem dX0_part_20 : decode cX0_part 20 = .ok (.iconst (-1), 1) := dk_2 (dk_at dksX0_part_0 20 rfl rfl)
theorem dX0_part_21 : decode cX0_part 21 = .ok (.goto 5, 3) := dk_167 0 5 (dk_at dksX0_part_0 21 rfl rfl)
theorem dX0_part_24 : decode cX0_part 24 = .ok (.lload_n 2, 1) := dk_32 (dk_at dksX0_part_1 0 rfl rfl)
theorem dX0_part_25 : decode cX0_part 25 = .ok (.l2i, 1) := dk_136 (dk_at dksX0_part_1 1 rfl rfl)
theorem dX0_part_26 : decode cX0_part 26 = .ok (.ireturn, 1) := dk_172 (dk_at dksX0_part_1 2 rfl rfl)
abbrev cX0_sortOf_2 : ByteArray := prog_1_method_32_code
def yX0_sortOf_2 : MethodName := ⟨RX0, "sortOf", "(II)I"⟩
def dkwX0_sortOf_2_4 : List UInt8 := [180, 0, 216, 27, 46, 172, 42, 16, 254, 182, 0, 79, 172]
abbrev dktX0_sortOf_2_4 : List UInt8 := dkwX0_sortOf_2_4 ++ []
def dkwX0_sortOf_2_3 : List UInt8 := [46, 172, 42, 180, 0, 59, 180, 0, 85, 180, 0, 213, 27, 46, 172, 42, 180, 0, 59, 180, 0, 85]
abbrev dktX0_sortOf_2_3 : List UInt8 := dkwX0_sortOf_2_3 ++ dktX0_sortOf_2_4
def dkwX0_sortOf_2_2 : List UInt8 := [42, 180, 0, 59, 180, 0, 85, 180, 0, 207, 27, 46, 172, 42, 180, 0, 59, 180, 0, 85, 180, 0, 210, 27]
abbrev dktX0_sortOf_2_2 : List UInt8 := dkwX0_sortOf_2_2 ++ dktX0_sortOf_2_3
def dkwX0_sortOf_2_1 : List UInt8 := [170, 0, 0, 0, 0, 0, 0, 84, 0, 0, 0, 0, 0, 0, 0, 3, 0, 0, 0, 32, 0, 0, 0, 45, 0, 0, 0, 58, 0, 0, 0, 71]
abbrev dktX0_sortOf_2_1 : List UInt8 := dkwX0_sortOf_2_1 ++ dktX0_sortOf_2_2
def dkwX0_sortOf_2_0 : List UInt8 := [42, 27, 182, 0, 204, 154, 0, 10, 42, 16, 254, 182, 0, 79, 172, 28]
abbrev dktX0_sortOf_2_0 : List UInt8 := dkwX0_sortOf_2_0 ++ dktX0_sortOf_2_1
theorem dksX0_sortOf_2_0 : cX0_sortOf_2.data.toList.drop 0 = dktX0_sortOf_2_0 := by decide +kernel
theorem dksX0_sortOf_2_1 : cX0_sortOf_2.data.toList.drop 16 = dktX0_sortOf_2_1 := dk_seg dksX0_sortOf_2_0 16 rfl rfl
theorem dksX0_sortOf_2_2 : cX0_sortOf_2.data.toList.drop 48 = dktX0_sortOf_2_2 := dk_seg dksX0_sortOf_2_1 32 rfl rfl
theorem dksX0_sortOf_2_3 : cX0_sortOf_2.data.toList.drop 72 = dktX0_sortOf_2_3 := dk_seg dksX0_sortOf_2_2 24 rfl rfl
theorem dksX0_sortOf_2_4 : cX0_sortOf_2.data.toList.drop 94 = dktX0_sortOf_2_4 := dk_seg dksX0_sortOf_2_3 22 rfl rfl
theorem dX0_sortOf_2_0 : decode cX0_sortOf_2 0 = .ok (.aload_n 0, 1) := dk_42 (dk_at dksX0_sortOf_2_0 0 rfl rfl)
theorem dX0_sortOf_2_1 : decode cX0_sortOf_2 1 = .ok (.iload_n 1, 1) := dk_27 (dk_at dksX0_sortOf_2_0 1 rfl rfl)
theorem dX0_sortOf_2_2 : decode cX0_sortOf_2 2 = .ok (.invokevirtual 204, 3) := dk_182 0 204 (dk_at dksX0_sortOf_2_0 2 rfl rfl)
theorem dX0_sortOf_2_5 : decode cX0_sortOf_2 5 = .ok (.ifCond .ne 10, 3) := dk_154 0 10 (dk_at dksX0_sortOf_2_0 5 rfl rfl)
theorem dX0_sortOf_2_8 : decode cX0_sortOf_2 8 = .ok (.aload_n 0, 1) := dk_42 (dk_at dksX0_sortOf_2_0 8 rfl rfl)
theorem dX0_sortOf_2_9 : decode cX0_sortOf_2 9 = .ok (.bipush (-2), 2) := dk_16 254 (dk_at dksX0_sortOf_2_0 9 rfl rfl)
theorem dX0_sortOf_2_11 : decode cX0_sortOf_2 11 = .ok (.invokevirtual 79, 3) := dk_182 0 79 (dk_at dksX0_sortOf_2_0 11 rfl rfl)
theorem dX0_sortOf_2_14 : decode cX0_sortOf_2 14 = .ok (.ireturn, 1) := dk_172 (dk_at dksX0_sortOf_2_0 14 rfl rfl)
theorem dX0_sortOf_2_15 : decode cX0_sortOf_2 15 = .ok (.iload_n 2, 1) := dk_28 (dk_at dksX0_sortOf_2_0 15 rfl rfl)
theorem dX0_sortOf_2_16 : decode cX0_sortOf_2 16 = .ok (.tableswitch 84 0 3 #[32, 45, 58, 71], 32) := by decide +kernel
theorem dX0_sortOf_2_48 : decode cX0_sortOf_2 48 = .ok (.aload_n 0, 1) := dk_42 (dk_at dksX0_sortOf_2_2 0 rfl rfl)
theorem dX0_sortOf_2_49 : decode cX0_sortOf_2 49 = .ok (.getfield 59, 3) := dk_180 0 59 (dk_at dksX0_sortOf_2_2 1 rfl rfl)
theorem dX0_sortOf_2_52 : decode cX0_sortOf_2 52 = .ok (.getfield 85, 3) := dk_180 0 85 (dk_at dksX0_sortOf_2_2 4 rfl rfl)
theorem dX0_sortOf_2_55 : decode cX0_sortOf_2 55 = .ok (.getfield 207, 3) := dk_180 0 207 (dk_at dksX0_sortOf_2_2 7 rfl rfl)
theorem dX0_sortOf_2_58 : decode cX0_sortOf_2 58 = .ok (.iload_n 1, 1) := dk_27 (dk_at dksX0_sortOf_2_2 10 rfl rfl)
theorem dX0_sortOf_2_59 : decode cX0_sortOf_2 59 = .ok (.iaload, 1) := dk_46 (dk_at dksX0_sortOf_2_2 11 rfl rfl)
theorem dX0_sortOf_2_60 : decode cX0_sortOf_2 60 = .ok (.ireturn, 1) := dk_172 (dk_at dksX0_sortOf_2_2 12 rfl rfl)
theorem dX0_sortOf_2_61 : decode cX0_sortOf_2 61 = .ok (.aload_n 0, 1) := dk_42 (dk_at dksX0_sortOf_2_2 13 rfl rfl)
theorem dX0_sortOf_2_62 : decode cX0_sortOf_2 62 = .ok (.getfield 59, 3) := dk_180 0 59 (dk_at dksX0_sortOf_2_2 14 rfl rfl)
theorem dX0_sortOf_2_65 : decode cX0_sortOf_2 65 = .ok (.getfield 85, 3) := dk_180 0 85 (dk_at dksX0_sortOf_2_2 17 rfl rfl)
theorem dX0_sortOf_2_68 : decode cX0_sortOf_2 68 = .ok (.getfield 210, 3) := dk_180 0 210 (dk_at dksX0_sortOf_2_2 20 rfl rfl)
theorem dX0_sortOf_2_71 : decode cX0_sortOf_2 71 = .ok (.iload_n 1, 1) := dk_27 (dk_at dksX0_sortOf_2_2 23 rfl rfl)
theorem dX0_sortOf_2_72 : decode cX0_sortOf_2 72 = .ok (.iaload, 1) := dk_46 (dk_at dksX0_sortOf_2_3 0 rfl rfl)
theorem dX0_sortOf_2_73 : decode cX0_sortOf_2 73 = .ok (.ireturn, 1) := dk_172 (dk_at dksX0_sortOf_2_3 1 rfl rfl)
theorem dX0_sortOf_2_74 : decode cX0_sortOf_2 74 = .ok (.aload_n 0, 1) := dk_42 (dk_at dksX0_sortOf_2_3 2 rfl rfl)
theorem dX0_sortOf_2_75 : decode cX0_sortOf_2 75 = .ok (.getfield 59, 3) := dk_180 0 59 (dk_at dksX0_sortOf_2_3 3 rfl rfl)
theorem dX0_sortOf_2_78 : decode cX0_sortOf_2 78 = .ok (.getfield 85, 3) := dk_180 0 85 (dk_at dksX0_sortOf_2_3 6 rfl rfl)
theorem dX0_sortOf_2_81 : decode cX0_sortOf_2 81 = .ok (.getfield 213, 3) := dk_180 0 213 (dk_at dksX0_sortOf_2_3 9 rfl rfl)
theorem dX0_sortOf_2_84 : decode cX0_sortOf_2 84 = .ok (.iload_n 1, 1) := dk_27 (dk_at dksX0_sortOf_2_3 12 rfl rfl)
theorem dX0_sortOf_2_85 : decode cX0_sortOf_2 85 = .ok (.iaload, 1) := dk_46 (dk_at dksX0_sortOf_2_3 13 rfl rfl)
theorem dX0_sortOf_2_86 : decode cX0_sortOf_2 86 = .ok (.ireturn, 1) := dk_172 (dk_at dksX0_sortOf_2_3 14 rfl rfl)
theorem dX0_sortOf_2_87 : decode cX0_sortOf_2 87 = .ok (.aload_n 0, 1) := dk_42 (dk_at dksX0_sortOf_2_3 15 rfl rfl)
theorem dX0_sortOf_2_88 : decode cX0_sortOf_2 88 = .ok (.getfield 59, 3) := dk_180 0 59 (dk_at dksX0_sortOf_2_3 16 rfl rfl)
theorem dX0_sortOf_2_91 : decode cX0_sortOf_2 91 = .ok (.getfield 85, 3) := dk_180 0 85 (dk_at dksX0_sortOf_2_3 19 rfl rfl)
theorem dX0_sortOf_2_94 : decode cX0_sortOf_2 94 = .ok (.getfield 216, 3) := dk_180 0 216 (dk_at dksX0_sortOf_2_4 0 rfl rfl)
theorem dX0_sortOf_2_97 : decode cX0_sortOf_2 97 = .ok (.iload_n 1, 1) := dk_27 (dk_at dksX0_sortOf_2_4 3 rfl rfl)
theorem dX0_sortOf_2_98 : decode cX0_sortOf_2 98 = .ok (.iaload, 1) := dk_46 (dk_at dksX0_sortOf_2_4 4 rfl rfl)
theorem dX0_sortOf_2_99 : decode cX0_sortOf_2 99 = .ok (.ireturn, 1) := dk_172 (dk_at dksX0_sortOf_2_4 5 rfl rfl)
theorem dX0_sortOf_2_100 : decode cX0_sortOf_2 100 = .ok (.aload_n 0, 1) := dk_42 (dk_at dksX0_sortOf_2_4 6 rfl rfl)
theorem dX0_sortOf_2_101 : decode cX0_sortOf_2 101 = .ok (.bipush (-2), 2) := dk_16 254 (dk_at dksX0_sortOf_2_4 7 rfl rfl)
theorem dX0_sortOf_2_103 : decode cX0_sortOf_2 103 = .ok (.invokevirtual 79, 3) := dk_182 0 79 (dk_at dksX0_sortOf_2_4 9 rfl rfl)
theorem dX0_sortOf_2_106 : decode cX0_sortOf_2 106 = .ok (.ireturn, 1) := dk_172 (dk_at dksX0_sortOf_2_4 12 rfl rfl)
abbrev cX0_isSort : ByteArray := prog_1_method_12_code
def yX0_isSort : MethodName := ⟨RX0, "isSort", "(I)Z"⟩
def dkwX0_isSort_0 : List UInt8 := [27, 3, 42, 180, 0, 59, 180, 0, 85, 180, 0, 89, 4, 100, 184, 0, 82, 172]
abbrev dktX0_isSort_0 : List UInt8 := dkwX0_isSort_0 ++ []
theorem dksX0_isSort_0 : cX0_isSort.data.toList.drop 0 = dktX0_isSort_0 := by decide +kernel
theorem dX0_isSort_0 : decode cX0_isSort 0 = .ok (.iload_n 1, 1) := dk_27 (dk_at dksX0_isSort_0 0 rfl rfl)
theorem dX0_isSort_1 : decode cX0_isSort 1 = .ok (.iconst 0, 1) := dk_3 (dk_at dksX0_isSort_0 1 rfl rfl)
theorem dX0_isSort_2 : decode cX0_isSort 2 = .ok (.aload_n 0, 1) := dk_42 (dk_at dksX0_isSort_0 2 rfl rfl)
theorem dX0_isSort_3 : decode cX0_isSort 3 = .ok (.getfield 59, 3) := dk_180 0 59 (dk_at dksX0_isSort_0 3 rfl rfl)
theorem dX0_isSort_6 : decode cX0_isSort 6 = .ok (.getfield 85, 3) := dk_180 0 85 (dk_at dksX0_isSort_0 6 rfl rfl)
theorem dX0_isSort_9 : decode cX0_isSort 9 = .ok (.getfield 89, 3) := dk_180 0 89 (dk_at dksX0_isSort_0 9 rfl rfl)
theorem dX0_isSort_12 : decode cX0_isSort 12 = .ok (.iconst 1, 1) := dk_4 (dk_at dksX0_isSort_0 12 rfl rfl)
theorem dX0_isSort_13 : decode cX0_isSort 13 = .ok (.isub, 1) := dk_100 (dk_at dksX0_isSort_0 13 rfl rfl)
theorem dX0_isSort_14 : decode cX0_isSort 14 = .ok (.invokestatic 82, 3) := dk_184 0 82 (dk_at dksX0_isSort_0 14 rfl rfl)
theorem dX0_isSort_17 : decode cX0_isSort 17 = .ok (.ireturn, 1) := dk_172 (dk_at dksX0_isSort_0 17 rfl rfl)
abbrev cX0_ask : ByteArray := prog_1_method_33_code
def yX0_ask : MethodName := ⟨RX0, "ask", "(II)I"⟩
def dkwX0_ask_5 : List UInt8 := [167, 0, 13, 42, 180, 0, 59, 180, 0, 85, 180, 0, 222, 181, 0, 222, 21, 4, 172]
abbrev dktX0_ask_5 : List UInt8 := dkwX0_ask_5 ++ []
def dkwX0_ask_4 : List UInt8 := [180, 0, 85, 180, 0, 219, 181, 0, 219, 42, 180, 0, 59, 180, 0, 85, 27, 4, 160, 0, 7, 28]
abbrev dktX0_ask_4 : List UInt8 := dkwX0_ask_4 ++ dktX0_ask_5
def dkwX0_ask_3 : List UInt8 := [180, 0, 222, 54, 4, 42, 180, 0, 59, 180, 0, 85, 27, 154, 0, 7, 28, 167, 0, 13, 42, 180, 0, 59]
abbrev dktX0_ask_3 : List UInt8 := dkwX0_ask_3 ++ dktX0_ask_4
def dkwX0_ask_2 : List UInt8 := [154, 0, 16, 42, 180, 0, 59, 180, 0, 85, 180, 0, 219, 167, 0, 13, 42, 180, 0, 59, 180, 0, 85]
abbrev dktX0_ask_2 : List UInt8 := dkwX0_ask_2 ++ dktX0_ask_3
def dkwX0_ask_1 : List UInt8 := [184, 0, 82, 153, 0, 7, 4, 167, 0, 4, 3, 62, 29, 154, 0, 10, 42, 16, 254, 182, 0, 79, 172, 27]
abbrev dktX0_ask_1 : List UInt8 := dkwX0_ask_1 ++ dktX0_ask_2
def dkwX0_ask_0 : List UInt8 := [27, 154, 0, 13, 28, 3, 16, 10, 184, 0, 82, 167, 0, 23, 27, 4, 160, 0, 17, 28, 3, 16, 99]
abbrev dktX0_ask_0 : List UInt8 := dkwX0_ask_0 ++ dktX0_ask_1
theorem dksX0_ask_0 : cX0_ask.data.toList.drop 0 = dktX0_ask_0 := by decide +kernel
theorem dksX0_ask_1 : cX0_ask.data.toList.drop 23 = dktX0_ask_1 := dk_seg dksX0_ask_0 23 rfl rfl
theorem dksX0_ask_2 : cX0_ask.data.toList.drop 47 = dktX0_ask_2 := dk_seg dksX0_ask_1 24 rfl rfl
theorem dksX0_ask_3 : cX0_ask.data.toList.drop 70 = dktX0_ask_3 := dk_seg dksX0_ask_2 23 rfl rfl
theorem dksX0_ask_4 : cX0_ask.data.toList.drop 94 = dktX0_ask_4 := dk_seg dksX0_ask_3 24 rfl rfl
theorem dksX0_ask_5 : cX0_ask.data.toList.drop 116 = dktX0_ask_5 := dk_seg dksX0_ask_4 22 rfl rfl
theorem dX0_ask_0 : decode cX0_ask 0 = .ok (.iload_n 1, 1) := dk_27 (dk_at dksX0_ask_0 0 rfl rfl)
theorem dX0_ask_1 : decode cX0_ask 1 = .ok (.ifCond .ne 13, 3) := dk_154 0 13 (dk_at dksX0_ask_0 1 rfl rfl)
theorem dX0_ask_4 : decode cX0_ask 4 = .ok (.iload_n 2, 1) := dk_28 (dk_at dksX0_ask_0 4 rfl rfl)
theorem dX0_ask_5 : decode cX0_ask 5 = .ok (.iconst 0, 1) := dk_3 (dk_at dksX0_ask_0 5 rfl rfl)
theorem dX0_ask_6 : decode cX0_ask 6 = .ok (.bipush 10, 2) := dk_16 10 (dk_at dksX0_ask_0 6 rfl rfl)
theorem dX0_ask_8 : decode cX0_ask 8 = .ok (.invokestatic 82, 3) := dk_184 0 82 (dk_at dksX0_ask_0 8 rfl rfl)
theorem dX0_ask_11 : decode cX0_ask 11 = .ok (.goto 23, 3) := dk_167 0 23 (dk_at dksX0_ask_0 11 rfl rfl)
theorem dX0_ask_14 : decode cX0_ask 14 = .ok (.iload_n 1, 1) := dk_27 (dk_at dksX0_ask_0 14 rfl rfl)
theorem dX0_ask_15 : decode cX0_ask 15 = .ok (.iconst 1, 1) := dk_4 (dk_at dksX0_ask_0 15 rfl rfl)
theorem dX0_ask_16 : decode cX0_ask 16 = .ok (.if_icmp .ne 17, 3) := dk_160 0 17 (dk_at dksX0_ask_0 16 rfl rfl)
theorem dX0_ask_19 : decode cX0_ask 19 = .ok (.iload_n 2, 1) := dk_28 (dk_at dksX0_ask_0 19 rfl rfl)
theorem dX0_ask_20 : decode cX0_ask 20 = .ok (.iconst 0, 1) := dk_3 (dk_at dksX0_ask_0 20 rfl rfl)
theorem dX0_ask_21 : decode cX0_ask 21 = .ok (.bipush 99, 2) := dk_16 99 (dk_at dksX0_ask_0 21 rfl rfl)
theorem dX0_ask_23 : decode cX0_ask 23 = .ok (.invokestatic 82, 3) := dk_184 0 82 (dk_at dksX0_ask_1 0 rfl rfl)
theorem dX0_ask_26 : decode cX0_ask 26 = .ok (.ifCond .eq 7, 3) := dk_153 0 7 (dk_at dksX0_ask_1 3 rfl rfl)
theorem dX0_ask_29 : decode cX0_ask 29 = .ok (.iconst 1, 1) := dk_4 (dk_at dksX0_ask_1 6 rfl rfl)
theorem dX0_ask_30 : decode cX0_ask 30 = .ok (.goto 4, 3) := dk_167 0 4 (dk_at dksX0_ask_1 7 rfl rfl)
theorem dX0_ask_33 : decode cX0_ask 33 = .ok (.iconst 0, 1) := dk_3 (dk_at dksX0_ask_1 10 rfl rfl)
theorem dX0_ask_34 : decode cX0_ask 34 = .ok (.istore_n 3, 1) := dk_62 (dk_at dksX0_ask_1 11 rfl rfl)
theorem dX0_ask_35 : decode cX0_ask 35 = .ok (.iload_n 3, 1) := dk_29 (dk_at dksX0_ask_1 12 rfl rfl)
theorem dX0_ask_36 : decode cX0_ask 36 = .ok (.ifCond .ne 10, 3) := dk_154 0 10 (dk_at dksX0_ask_1 13 rfl rfl)
theorem dX0_ask_39 : decode cX0_ask 39 = .ok (.aload_n 0, 1) := dk_42 (dk_at dksX0_ask_1 16 rfl rfl)
theorem dX0_ask_40 : decode cX0_ask 40 = .ok (.bipush (-2), 2) := dk_16 254 (dk_at dksX0_ask_1 17 rfl rfl)
theorem dX0_ask_42 : decode cX0_ask 42 = .ok (.invokevirtual 79, 3) := dk_182 0 79 (dk_at dksX0_ask_1 19 rfl rfl)
theorem dX0_ask_45 : decode cX0_ask 45 = .ok (.ireturn, 1) := dk_172 (dk_at dksX0_ask_1 22 rfl rfl)
theorem dX0_ask_46 : decode cX0_ask 46 = .ok (.iload_n 1, 1) := dk_27 (dk_at dksX0_ask_1 23 rfl rfl)
theorem dX0_ask_47 : decode cX0_ask 47 = .ok (.ifCond .ne 16, 3) := dk_154 0 16 (dk_at dksX0_ask_2 0 rfl rfl)
theorem dX0_ask_50 : decode cX0_ask 50 = .ok (.aload_n 0, 1) := dk_42 (dk_at dksX0_ask_2 3 rfl rfl)
theorem dX0_ask_51 : decode cX0_ask 51 = .ok (.getfield 59, 3) := dk_180 0 59 (dk_at dksX0_ask_2 4 rfl rfl)
theorem dX0_ask_54 : decode cX0_ask 54 = .ok (.getfield 85, 3) := dk_180 0 85 (dk_at dksX0_ask_2 7 rfl rfl)
theorem dX0_ask_57 : decode cX0_ask 57 = .ok (.getfield 219, 3) := dk_180 0 219 (dk_at dksX0_ask_2 10 rfl rfl)
theorem dX0_ask_60 : decode cX0_ask 60 = .ok (.goto 13, 3) := dk_167 0 13 (dk_at dksX0_ask_2 13 rfl rfl)
theorem dX0_ask_63 : decode cX0_ask 63 = .ok (.aload_n 0, 1) := dk_42 (dk_at dksX0_ask_2 16 rfl rfl)
theorem dX0_ask_64 : decode cX0_ask 64 = .ok (.getfield 59, 3) := dk_180 0 59 (dk_at dksX0_ask_2 17 rfl rfl)
theorem dX0_ask_67 : decode cX0_ask 67 = .ok (.getfield 85, 3) := dk_180 0 85 (dk_at dksX0_ask_2 20 rfl rfl)
theorem dX0_ask_70 : decode cX0_ask 70 = .ok (.getfield 222, 3) := dk_180 0 222 (dk_at dksX0_ask_3 0 rfl rfl)
theorem dX0_ask_73 : decode cX0_ask 73 = .ok (.istore 4, 2) := dk_54 4 (dk_at dksX0_ask_3 3 rfl rfl)
theorem dX0_ask_75 : decode cX0_ask 75 = .ok (.aload_n 0, 1) := dk_42 (dk_at dksX0_ask_3 5 rfl rfl)
theorem dX0_ask_76 : decode cX0_ask 76 = .ok (.getfield 59, 3) := dk_180 0 59 (dk_at dksX0_ask_3 6 rfl rfl)
theorem dX0_ask_79 : decode cX0_ask 79 = .ok (.getfield 85, 3) := dk_180 0 85 (dk_at dksX0_ask_3 9 rfl rfl)
theorem dX0_ask_82 : decode cX0_ask 82 = .ok (.iload_n 1, 1) := dk_27 (dk_at dksX0_ask_3 12 rfl rfl)
theorem dX0_ask_83 : decode cX0_ask 83 = .ok (.ifCond .ne 7, 3) := dk_154 0 7 (dk_at dksX0_ask_3 13 rfl rfl)
theorem dX0_ask_86 : decode cX0_ask 86 = .ok (.iload_n 2, 1) := dk_28 (dk_at dksX0_ask_3 16 rfl rfl)
theorem dX0_ask_87 : decode cX0_ask 87 = .ok (.goto 13, 3) := dk_167 0 13 (dk_at dksX0_ask_3 17 rfl rfl)
theorem dX0_ask_90 : decode cX0_ask 90 = .ok (.aload_n 0, 1) := dk_42 (dk_at dksX0_ask_3 20 rfl rfl)
theorem dX0_ask_91 : decode cX0_ask 91 = .ok (.getfield 59, 3) := dk_180 0 59 (dk_at dksX0_ask_3 21 rfl rfl)
theorem dX0_ask_94 : decode cX0_ask 94 = .ok (.getfield 85, 3) := dk_180 0 85 (dk_at dksX0_ask_4 0 rfl rfl)
theorem dX0_ask_97 : decode cX0_ask 97 = .ok (.getfield 219, 3) := dk_180 0 219 (dk_at dksX0_ask_4 3 rfl rfl)
theorem dX0_ask_100 : decode cX0_ask 100 = .ok (.putfield 219, 3) := dk_181 0 219 (dk_at dksX0_ask_4 6 rfl rfl)
theorem dX0_ask_103 : decode cX0_ask 103 = .ok (.aload_n 0, 1) := dk_42 (dk_at dksX0_ask_4 9 rfl rfl)
theorem dX0_ask_104 : decode cX0_ask 104 = .ok (.getfield 59, 3) := dk_180 0 59 (dk_at dksX0_ask_4 10 rfl rfl)
theorem dX0_ask_107 : decode cX0_ask 107 = .ok (.getfield 85, 3) := dk_180 0 85 (dk_at dksX0_ask_4 13 rfl rfl)
theorem dX0_ask_110 : decode cX0_ask 110 = .ok (.iload_n 1, 1) := dk_27 (dk_at dksX0_ask_4 16 rfl rfl)
theorem dX0_ask_111 : decode cX0_ask 111 = .ok (.iconst 1, 1) := dk_4 (dk_at dksX0_ask_4 17 rfl rfl)
theorem dX0_ask_112 : decode cX0_ask 112 = .ok (.if_icmp .ne 7, 3) := dk_160 0 7 (dk_at dksX0_ask_4 18 rfl rfl)
theorem dX0_ask_115 : decode cX0_ask 115 = .ok (.iload_n 2, 1) := dk_28 (dk_at dksX0_ask_4 21 rfl rfl)
theorem dX0_ask_116 : decode cX0_ask 116 = .ok (.goto 13, 3) := dk_167 0 13 (dk_at dksX0_ask_5 0 rfl rfl)
theorem dX0_ask_119 : decode cX0_ask 119 = .ok (.aload_n 0, 1) := dk_42 (dk_at dksX0_ask_5 3 rfl rfl)
theorem dX0_ask_120 : decode cX0_ask 120 = .ok (.getfield 59, 3) := dk_180 0 59 (dk_at dksX0_ask_5 4 rfl rfl)
theorem dX0_ask_123 : decode cX0_ask 123 = .ok (.getfield 85, 3) := dk_180 0 85 (dk_at dksX0_ask_5 7 rfl rfl)
theorem dX0_ask_126 : decode cX0_ask 126 = .ok (.getfield 222, 3) := dk_180 0 222 (dk_at dksX0_ask_5 10 rfl rfl)
theorem dX0_ask_129 : decode cX0_ask 129 = .ok (.putfield 222, 3) := dk_181 0 222 (dk_at dksX0_ask_5 13 rfl rfl)
theorem dX0_ask_132 : decode cX0_ask 132 = .ok (.iload 4, 2) := dk_21 4 (dk_at dksX0_ask_5 16 rfl rfl)
theorem dX0_ask_134 : decode cX0_ask 134 = .ok (.ireturn, 1) := dk_172 (dk_at dksX0_ask_5 18 rfl rfl)
abbrev cX0_feed : ByteArray := prog_1_method_34_code
def yX0_feed : MethodName := ⟨RX0, "feed", "(II)I"⟩
def dkwX0_feed_3 : List UInt8 := [79, 132, 3, 255, 167, 255, 223, 42, 180, 0, 225, 172]
abbrev dktX0_feed_3 : List UInt8 := dkwX0_feed_3 ++ []
def dkwX0_feed_2 : List UInt8 := [180, 0, 69, 42, 89, 180, 0, 225, 90, 4, 96, 181, 0, 225, 27, 16, 8, 29, 104, 122, 17, 0, 255, 126]
abbrev dktX0_feed_2 : List UInt8 := dkwX0_feed_2 ++ dktX0_feed_3
def dkwX0_feed_1 : List UInt8 := [17, 0, 200, 164, 0, 10, 42, 16, 250, 182, 0, 79, 172, 28, 4, 100, 62, 29, 155, 0, 35, 42]
abbrev dktX0_feed_1 : List UInt8 := dkwX0_feed_1 ++ dktX0_feed_2
def dkwX0_feed_0 : List UInt8 := [28, 4, 7, 184, 0, 82, 154, 0, 10, 42, 16, 254, 182, 0, 79, 172, 42, 180, 0, 225, 28, 96]
abbrev dktX0_feed_0 : List UInt8 := dkwX0_feed_0 ++ dktX0_feed_1
theorem dksX0_feed_0 : cX0_feed.data.toList.drop 0 = dktX0_feed_0 := by decide +kernel
theorem dksX0_feed_1 : cX0_feed.data.toList.drop 22 = dktX0_feed_1 := dk_seg dksX0_feed_0 22 rfl rfl
theorem dksX0_feed_2 : cX0_feed.data.toList.drop 44 = dktX0_feed_2 := dk_seg dksX0_feed_1 22 rfl rfl
theorem dksX0_feed_3 : cX0_feed.data.toList.drop 68 = dktX0_feed_3 := dk_seg dksX0_feed_2 24 rfl rfl
theorem dX0_feed_0 : decode cX0_feed 0 = .ok (.iload_n 2, 1) := dk_28 (dk_at dksX0_feed_0 0 rfl rfl)
theorem dX0_feed_1 : decode cX0_feed 1 = .ok (.iconst 1, 1) := dk_4 (dk_at dksX0_feed_0 1 rfl rfl)
theorem dX0_feed_2 : decode cX0_feed 2 = .ok (.iconst 4, 1) := dk_7 (dk_at dksX0_feed_0 2 rfl rfl)
theorem dX0_feed_3 : decode cX0_feed 3 = .ok (.invokestatic 82, 3) := dk_184 0 82 (dk_at dksX0_feed_0 3 rfl rfl)
theorem dX0_feed_6 : decode cX0_feed 6 = .ok (.ifCond .ne 10, 3) := dk_154 0 10 (dk_at dksX0_feed_0 6 rfl rfl)
theorem dX0_feed_9 : decode cX0_feed 9 = .ok (.aload_n 0, 1) := dk_42 (dk_at dksX0_feed_0 9 rfl rfl)
theorem dX0_feed_10 : decode cX0_feed 10 = .ok (.bipush (-2), 2) := dk_16 254 (dk_at dksX0_feed_0 10 rfl rfl)
theorem dX0_feed_12 : decode cX0_feed 12 = .ok (.invokevirtual 79, 3) := dk_182 0 79 (dk_at dksX0_feed_0 12 rfl rfl)
theorem dX0_feed_15 : decode cX0_feed 15 = .ok (.ireturn, 1) := dk_172 (dk_at dksX0_feed_0 15 rfl rfl)
theorem dX0_feed_16 : decode cX0_feed 16 = .ok (.aload_n 0, 1) := dk_42 (dk_at dksX0_feed_0 16 rfl rfl)
theorem dX0_feed_17 : decode cX0_feed 17 = .ok (.getfield 225, 3) := dk_180 0 225 (dk_at dksX0_feed_0 17 rfl rfl)
theorem dX0_feed_20 : decode cX0_feed 20 = .ok (.iload_n 2, 1) := dk_28 (dk_at dksX0_feed_0 20 rfl rfl)
theorem dX0_feed_21 : decode cX0_feed 21 = .ok (.iadd, 1) := dk_96 (dk_at dksX0_feed_0 21 rfl rfl)
theorem dX0_feed_22 : decode cX0_feed 22 = .ok (.sipush 200, 3) := dk_17 0 200 (dk_at dksX0_feed_1 0 rfl rfl)
theorem dX0_feed_25 : decode cX0_feed 25 = .ok (.if_icmp .le 10, 3) := dk_164 0 10 (dk_at dksX0_feed_1 3 rfl rfl)
theorem dX0_feed_28 : decode cX0_feed 28 = .ok (.aload_n 0, 1) := dk_42 (dk_at dksX0_feed_1 6 rfl rfl)
theorem dX0_feed_29 : decode cX0_feed 29 = .ok (.bipush (-6), 2) := dk_16 250 (dk_at dksX0_feed_1 7 rfl rfl)
theorem dX0_feed_31 : decode cX0_feed 31 = .ok (.invokevirtual 79, 3) := dk_182 0 79 (dk_at dksX0_feed_1 9 rfl rfl)
theorem dX0_feed_34 : decode cX0_feed 34 = .ok (.ireturn, 1) := dk_172 (dk_at dksX0_feed_1 12 rfl rfl)
theorem dX0_feed_35 : decode cX0_feed 35 = .ok (.iload_n 2, 1) := dk_28 (dk_at dksX0_feed_1 13 rfl rfl)
theorem dX0_feed_36 : decode cX0_feed 36 = .ok (.iconst 1, 1) := dk_4 (dk_at dksX0_feed_1 14 rfl rfl)
theorem dX0_feed_37 : decode cX0_feed 37 = .ok (.isub, 1) := dk_100 (dk_at dksX0_feed_1 15 rfl rfl)
theorem dX0_feed_38 : decode cX0_feed 38 = .ok (.istore_n 3, 1) := dk_62 (dk_at dksX0_feed_1 16 rfl rfl)
theorem dX0_feed_39 : decode cX0_feed 39 = .ok (.iload_n 3, 1) := dk_29 (dk_at dksX0_feed_1 17 rfl rfl)
theorem dX0_feed_40 : decode cX0_feed 40 = .ok (.ifCond .lt 35, 3) := dk_155 0 35 (dk_at dksX0_feed_1 18 rfl rfl)
theorem dX0_feed_43 : decode cX0_feed 43 = .ok (.aload_n 0, 1) := dk_42 (dk_at dksX0_feed_1 21 rfl rfl)
theorem dX0_feed_44 : decode cX0_feed 44 = .ok (.getfield 69, 3) := dk_180 0 69 (dk_at dksX0_feed_2 0 rfl rfl)
theorem dX0_feed_47 : decode cX0_feed 47 = .ok (.aload_n 0, 1) := dk_42 (dk_at dksX0_feed_2 3 rfl rfl)
theorem dX0_feed_48 : decode cX0_feed 48 = .ok (.dup, 1) := dk_89 (dk_at dksX0_feed_2 4 rfl rfl)
theorem dX0_feed_49 : decode cX0_feed 49 = .ok (.getfield 225, 3) := dk_180 0 225 (dk_at dksX0_feed_2 5 rfl rfl)
theorem dX0_feed_52 : decode cX0_feed 52 = .ok (.dup_x1, 1) := dk_90 (dk_at dksX0_feed_2 8 rfl rfl)
theorem dX0_feed_53 : decode cX0_feed 53 = .ok (.iconst 1, 1) := dk_4 (dk_at dksX0_feed_2 9 rfl rfl)
theorem dX0_feed_54 : decode cX0_feed 54 = .ok (.iadd, 1) := dk_96 (dk_at dksX0_feed_2 10 rfl rfl)
theorem dX0_feed_55 : decode cX0_feed 55 = .ok (.putfield 225, 3) := dk_181 0 225 (dk_at dksX0_feed_2 11 rfl rfl)
theorem dX0_feed_58 : decode cX0_feed 58 = .ok (.iload_n 1, 1) := dk_27 (dk_at dksX0_feed_2 14 rfl rfl)
theorem dX0_feed_59 : decode cX0_feed 59 = .ok (.bipush 8, 2) := dk_16 8 (dk_at dksX0_feed_2 15 rfl rfl)
theorem dX0_feed_61 : decode cX0_feed 61 = .ok (.iload_n 3, 1) := dk_29 (dk_at dksX0_feed_2 17 rfl rfl)
theorem dX0_feed_62 : decode cX0_feed 62 = .ok (.imul, 1) := dk_104 (dk_at dksX0_feed_2 18 rfl rfl)
theorem dX0_feed_63 : decode cX0_feed 63 = .ok (.ishr, 1) := dk_122 (dk_at dksX0_feed_2 19 rfl rfl)
theorem dX0_feed_64 : decode cX0_feed 64 = .ok (.sipush 255, 3) := dk_17 0 255 (dk_at dksX0_feed_2 20 rfl rfl)
theorem dX0_feed_67 : decode cX0_feed 67 = .ok (.iand, 1) := dk_126 (dk_at dksX0_feed_2 23 rfl rfl)
theorem dX0_feed_68 : decode cX0_feed 68 = .ok (.iastore, 1) := dk_79 (dk_at dksX0_feed_3 0 rfl rfl)
theorem dX0_feed_69 : decode cX0_feed 69 = .ok (.iinc 3 (-1), 3) := dk_132 3 255 (dk_at dksX0_feed_3 1 rfl rfl)
theorem dX0_feed_72 : decode cX0_feed 72 = .ok (.goto (-33), 3) := dk_167 255 223 (dk_at dksX0_feed_3 4 rfl rfl)
theorem dX0_feed_75 : decode cX0_feed 75 = .ok (.aload_n 0, 1) := dk_42 (dk_at dksX0_feed_3 7 rfl rfl)
theorem dX0_feed_76 : decode cX0_feed 76 = .ok (.getfield 225, 3) := dk_180 0 225 (dk_at dksX0_feed_3 8 rfl rfl)
theorem dX0_feed_79 : decode cX0_feed 79 = .ok (.ireturn, 1) := dk_172 (dk_at dksX0_feed_3 11 rfl rfl)
abbrev cX0_wipe : ByteArray := prog_1_method_35_code
def yX0_wipe : MethodName := ⟨RX0, "wipe", "()I"⟩
def dkwX0_wipe_0 : List UInt8 := [42, 180, 0, 225, 60, 42, 3, 181, 0, 225, 27, 172]
abbrev dktX0_wipe_0 : List UInt8 := dkwX0_wipe_0 ++ []
theorem dksX0_wipe_0 : cX0_wipe.data.toList.drop 0 = dktX0_wipe_0 := by decide +kernel
theorem dX0_wipe_0 : decode cX0_wipe 0 = .ok (.aload_n 0, 1) := dk_42 (dk_at dksX0_wipe_0 0 rfl rfl)
theorem dX0_wipe_1 : decode cX0_wipe 1 = .ok (.getfield 225, 3) := dk_180 0 225 (dk_at dksX0_wipe_0 1 rfl rfl)
theorem dX0_wipe_4 : decode cX0_wipe 4 = .ok (.istore_n 1, 1) := dk_60 (dk_at dksX0_wipe_0 4 rfl rfl)
theorem dX0_wipe_5 : decode cX0_wipe 5 = .ok (.aload_n 0, 1) := dk_42 (dk_at dksX0_wipe_0 5 rfl rfl)
theorem dX0_wipe_6 : decode cX0_wipe 6 = .ok (.iconst 0, 1) := dk_3 (dk_at dksX0_wipe_0 6 rfl rfl)
theorem dX0_wipe_7 : decode cX0_wipe 7 = .ok (.putfield 225, 3) := dk_181 0 225 (dk_at dksX0_wipe_0 7 rfl rfl)
theorem dX0_wipe_10 : decode cX0_wipe 10 = .ok (.iload_n 1, 1) := dk_27 (dk_at dksX0_wipe_0 10 rfl rfl)
theorem dX0_wipe_11 : decode cX0_wipe 11 = .ok (.ireturn, 1) := dk_172 (dk_at dksX0_wipe_0 11 rfl rfl)
abbrev cX0_wall : ByteArray := prog_1_method_36_code
def yX0_wall : MethodName := ⟨RX0, "wall", "()I"⟩
def dkwX0_wall_3 : List UInt8 := [181, 0, 225, 28, 172, 58, 4, 42, 3, 181, 0, 225, 25, 4, 191]
abbrev dktX0_wall_3 : List UInt8 := dkwX0_wall_3 ++ []
def dkwX0_wall_2 : List UInt8 := [181, 0, 225, 29, 172, 76, 42, 16, 254, 182, 0, 79, 87, 16, 236, 43, 180, 0, 243, 100, 61, 42, 3]
abbrev dktX0_wall_2 : List UInt8 := dkwX0_wall_2 ++ dktX0_wall_3
def dkwX0_wall_1 : List UInt8 := [183, 0, 234, 76, 43, 182, 0, 237, 61, 42, 180, 0, 59, 43, 180, 0, 240, 181, 0, 85, 28, 62, 42, 3]
abbrev dktX0_wall_1 : List UInt8 := dkwX0_wall_1 ++ dktX0_wall_2
def dkwX0_wall_0 : List UInt8 := [187, 0, 228, 89, 42, 180, 0, 69, 42, 180, 0, 225, 42, 180, 0, 59, 180, 0, 85, 182, 0, 230]
abbrev dktX0_wall_0 : List UInt8 := dkwX0_wall_0 ++ dktX0_wall_1
theorem dksX0_wall_0 : cX0_wall.data.toList.drop 0 = dktX0_wall_0 := by decide +kernel
theorem dksX0_wall_1 : cX0_wall.data.toList.drop 22 = dktX0_wall_1 := dk_seg dksX0_wall_0 22 rfl rfl
theorem dksX0_wall_2 : cX0_wall.data.toList.drop 46 = dktX0_wall_2 := dk_seg dksX0_wall_1 24 rfl rfl
theorem dksX0_wall_3 : cX0_wall.data.toList.drop 69 = dktX0_wall_3 := dk_seg dksX0_wall_2 23 rfl rfl
theorem dX0_wall_0 : decode cX0_wall 0 = .ok (.new 228, 3) := dk_187 0 228 (dk_at dksX0_wall_0 0 rfl rfl)
theorem dX0_wall_3 : decode cX0_wall 3 = .ok (.dup, 1) := dk_89 (dk_at dksX0_wall_0 3 rfl rfl)
theorem dX0_wall_4 : decode cX0_wall 4 = .ok (.aload_n 0, 1) := dk_42 (dk_at dksX0_wall_0 4 rfl rfl)
theorem dX0_wall_5 : decode cX0_wall 5 = .ok (.getfield 69, 3) := dk_180 0 69 (dk_at dksX0_wall_0 5 rfl rfl)
theorem dX0_wall_8 : decode cX0_wall 8 = .ok (.aload_n 0, 1) := dk_42 (dk_at dksX0_wall_0 8 rfl rfl)
theorem dX0_wall_9 : decode cX0_wall 9 = .ok (.getfield 225, 3) := dk_180 0 225 (dk_at dksX0_wall_0 9 rfl rfl)
theorem dX0_wall_12 : decode cX0_wall 12 = .ok (.aload_n 0, 1) := dk_42 (dk_at dksX0_wall_0 12 rfl rfl)
theorem dX0_wall_13 : decode cX0_wall 13 = .ok (.getfield 59, 3) := dk_180 0 59 (dk_at dksX0_wall_0 13 rfl rfl)
theorem dX0_wall_16 : decode cX0_wall 16 = .ok (.getfield 85, 3) := dk_180 0 85 (dk_at dksX0_wall_0 16 rfl rfl)
theorem dX0_wall_19 : decode cX0_wall 19 = .ok (.invokevirtual 230, 3) := dk_182 0 230 (dk_at dksX0_wall_0 19 rfl rfl)
theorem dX0_wall_22 : decode cX0_wall 22 = .ok (.invokespecial 234, 3) := dk_183 0 234 (dk_at dksX0_wall_1 0 rfl rfl)
theorem dX0_wall_25 : decode cX0_wall 25 = .ok (.astore_n 1, 1) := dk_76 (dk_at dksX0_wall_1 3 rfl rfl)
theorem dX0_wall_26 : decode cX0_wall 26 = .ok (.aload_n 1, 1) := dk_43 (dk_at dksX0_wall_1 4 rfl rfl)
theorem dX0_wall_27 : decode cX0_wall 27 = .ok (.invokevirtual 237, 3) := dk_182 0 237 (dk_at dksX0_wall_1 5 rfl rfl)
theorem dX0_wall_30 : decode cX0_wall 30 = .ok (.istore_n 2, 1) := dk_61 (dk_at dksX0_wall_1 8 rfl rfl)
theorem dX0_wall_31 : decode cX0_wall 31 = .ok (.aload_n 0, 1) := dk_42 (dk_at dksX0_wall_1 9 rfl rfl)
theorem dX0_wall_32 : decode cX0_wall 32 = .ok (.getfield 59, 3) := dk_180 0 59 (dk_at dksX0_wall_1 10 rfl rfl)
theorem dX0_wall_35 : decode cX0_wall 35 = .ok (.aload_n 1, 1) := dk_43 (dk_at dksX0_wall_1 13 rfl rfl)
theorem dX0_wall_36 : decode cX0_wall 36 = .ok (.getfield 240, 3) := dk_180 0 240 (dk_at dksX0_wall_1 14 rfl rfl)
theorem dX0_wall_39 : decode cX0_wall 39 = .ok (.putfield 85, 3) := dk_181 0 85 (dk_at dksX0_wall_1 17 rfl rfl)
theorem dX0_wall_42 : decode cX0_wall 42 = .ok (.iload_n 2, 1) := dk_28 (dk_at dksX0_wall_1 20 rfl rfl)
theorem dX0_wall_43 : decode cX0_wall 43 = .ok (.istore_n 3, 1) := dk_62 (dk_at dksX0_wall_1 21 rfl rfl)
theorem dX0_wall_44 : decode cX0_wall 44 = .ok (.aload_n 0, 1) := dk_42 (dk_at dksX0_wall_1 22 rfl rfl)
theorem dX0_wall_45 : decode cX0_wall 45 = .ok (.iconst 0, 1) := dk_3 (dk_at dksX0_wall_1 23 rfl rfl)
theorem dX0_wall_46 : decode cX0_wall 46 = .ok (.putfield 225, 3) := dk_181 0 225 (dk_at dksX0_wall_2 0 rfl rfl)
theorem dX0_wall_49 : decode cX0_wall 49 = .ok (.iload_n 3, 1) := dk_29 (dk_at dksX0_wall_2 3 rfl rfl)
theorem dX0_wall_50 : decode cX0_wall 50 = .ok (.ireturn, 1) := dk_172 (dk_at dksX0_wall_2 4 rfl rfl)
theorem dX0_wall_51 : decode cX0_wall 51 = .ok (.astore_n 1, 1) := dk_76 (dk_at dksX0_wall_2 5 rfl rfl)
theorem dX0_wall_52 : decode cX0_wall 52 = .ok (.aload_n 0, 1) := dk_42 (dk_at dksX0_wall_2 6 rfl rfl)
theorem dX0_wall_53 : decode cX0_wall 53 = .ok (.bipush (-2), 2) := dk_16 254 (dk_at dksX0_wall_2 7 rfl rfl)
theorem dX0_wall_55 : decode cX0_wall 55 = .ok (.invokevirtual 79, 3) := dk_182 0 79 (dk_at dksX0_wall_2 9 rfl rfl)
theorem dX0_wall_58 : decode cX0_wall 58 = .ok (.pop, 1) := dk_87 (dk_at dksX0_wall_2 12 rfl rfl)
theorem dX0_wall_59 : decode cX0_wall 59 = .ok (.bipush (-20), 2) := dk_16 236 (dk_at dksX0_wall_2 13 rfl rfl)
theorem dX0_wall_61 : decode cX0_wall 61 = .ok (.aload_n 1, 1) := dk_43 (dk_at dksX0_wall_2 15 rfl rfl)
theorem dX0_wall_62 : decode cX0_wall 62 = .ok (.getfield 243, 3) := dk_180 0 243 (dk_at dksX0_wall_2 16 rfl rfl)
theorem dX0_wall_65 : decode cX0_wall 65 = .ok (.isub, 1) := dk_100 (dk_at dksX0_wall_2 19 rfl rfl)
theorem dX0_wall_66 : decode cX0_wall 66 = .ok (.istore_n 2, 1) := dk_61 (dk_at dksX0_wall_2 20 rfl rfl)
theorem dX0_wall_67 : decode cX0_wall 67 = .ok (.aload_n 0, 1) := dk_42 (dk_at dksX0_wall_2 21 rfl rfl)
theorem dX0_wall_68 : decode cX0_wall 68 = .ok (.iconst 0, 1) := dk_3 (dk_at dksX0_wall_2 22 rfl rfl)
theorem dX0_wall_69 : decode cX0_wall 69 = .ok (.putfield 225, 3) := dk_181 0 225 (dk_at dksX0_wall_3 0 rfl rfl)
theorem dX0_wall_72 : decode cX0_wall 72 = .ok (.iload_n 2, 1) := dk_28 (dk_at dksX0_wall_3 3 rfl rfl)
theorem dX0_wall_73 : decode cX0_wall 73 = .ok (.ireturn, 1) := dk_172 (dk_at dksX0_wall_3 4 rfl rfl)
theorem dX0_wall_74 : decode cX0_wall 74 = .ok (.astore 4, 2) := dk_58 4 (dk_at dksX0_wall_3 5 rfl rfl)
theorem dX0_wall_76 : decode cX0_wall 76 = .ok (.aload_n 0, 1) := dk_42 (dk_at dksX0_wall_3 7 rfl rfl)
theorem dX0_wall_77 : decode cX0_wall 77 = .ok (.iconst 0, 1) := dk_3 (dk_at dksX0_wall_3 8 rfl rfl)
theorem dX0_wall_78 : decode cX0_wall 78 = .ok (.putfield 225, 3) := dk_181 0 225 (dk_at dksX0_wall_3 9 rfl rfl)
theorem dX0_wall_81 : decode cX0_wall 81 = .ok (.aload 4, 2) := dk_25 4 (dk_at dksX0_wall_3 12 rfl rfl)
theorem dX0_wall_83 : decode cX0_wall 83 = .ok (.athrow, 1) := dk_191 (dk_at dksX0_wall_3 14 rfl rfl)
abbrev cX0_state : ByteArray := prog_1_method_37_code
def yX0_state : MethodName := ⟨RX0, "state", "(I)I"⟩
def dkwX0_state_4 : List UInt8 := [182, 0, 79, 172]
abbrev dktX0_state_4 : List UInt8 := dkwX0_state_4 ++ []
def dkwX0_state_3 : List UInt8 := [44, 180, 0, 178, 4, 46, 96, 44, 180, 0, 178, 5, 46, 96, 172, 44, 182, 0, 47, 172, 42, 16, 254]
abbrev dktX0_state_3 : List UInt8 := dkwX0_state_3 ++ dktX0_state_4
def dkwX0_state_2 : List UInt8 := [44, 3, 182, 0, 246, 44, 4, 182, 0, 246, 96, 44, 5, 182, 0, 246, 96, 172, 44, 180, 0, 178, 3, 46]
abbrev dktX0_state_2 : List UInt8 := dkwX0_state_2 ++ dktX0_state_3
def dkwX0_state_1 : List UInt8 := [170, 0, 0, 0, 0, 0, 71, 0, 0, 0, 0, 0, 0, 0, 2, 0, 0, 0, 27, 0, 0, 0, 45, 0, 0, 0, 66]
abbrev dktX0_state_1 : List UInt8 := dkwX0_state_1 ++ dktX0_state_2
def dkwX0_state_0 : List UInt8 := [42, 180, 0, 59, 180, 0, 85, 77, 27]
abbrev dktX0_state_0 : List UInt8 := dkwX0_state_0 ++ dktX0_state_1
theorem dksX0_state_0 : cX0_state.data.toList.drop 0 = dktX0_state_0 := by decide +kernel
theorem dksX0_state_1 : cX0_state.data.toList.drop 9 = dktX0_state_1 := dk_seg dksX0_state_0 9 rfl rfl
theorem dksX0_state_2 : cX0_state.data.toList.drop 36 = dktX0_state_2 := dk_seg dksX0_state_1 27 rfl rfl
theorem dksX0_state_3 : cX0_state.data.toList.drop 60 = dktX0_state_3 := dk_seg dksX0_state_2 24 rfl rfl
theorem dksX0_state_4 : cX0_state.data.toList.drop 83 = dktX0_state_4 := dk_seg dksX0_state_3 23 rfl rfl
theorem dX0_state_0 : decode cX0_state 0 = .ok (.aload_n 0, 1) := dk_42 (dk_at dksX0_state_0 0 rfl rfl)
theorem dX0_state_1 : decode cX0_state 1 = .ok (.getfield 59, 3) := dk_180 0 59 (dk_at dksX0_state_0 1 rfl rfl)
theorem dX0_state_4 : decode cX0_state 4 = .ok (.getfield 85, 3) := dk_180 0 85 (dk_at dksX0_state_0 4 rfl rfl)
theorem dX0_state_7 : decode cX0_state 7 = .ok (.astore_n 2, 1) := dk_77 (dk_at dksX0_state_0 7 rfl rfl)
theorem dX0_state_8 : decode cX0_state 8 = .ok (.iload_n 1, 1) := dk_27 (dk_at dksX0_state_0 8 rfl rfl)
theorem dX0_state_9 : decode cX0_state 9 = .ok (.tableswitch 71 0 2 #[27, 45, 66], 27) := by decide +kernel
theorem dX0_state_36 : decode cX0_state 36 = .ok (.aload_n 2, 1) := dk_44 (dk_at dksX0_state_2 0 rfl rfl)
theorem dX0_state_37 : decode cX0_state 37 = .ok (.iconst 0, 1) := dk_3 (dk_at dksX0_state_2 1 rfl rfl)
theorem dX0_state_38 : decode cX0_state 38 = .ok (.invokevirtual 246, 3) := dk_182 0 246 (dk_at dksX0_state_2 2 rfl rfl)
theorem dX0_state_41 : decode cX0_state 41 = .ok (.aload_n 2, 1) := dk_44 (dk_at dksX0_state_2 5 rfl rfl)
theorem dX0_state_42 : decode cX0_state 42 = .ok (.iconst 1, 1) := dk_4 (dk_at dksX0_state_2 6 rfl rfl)
theorem dX0_state_43 : decode cX0_state 43 = .ok (.invokevirtual 246, 3) := dk_182 0 246 (dk_at dksX0_state_2 7 rfl rfl)
theorem dX0_state_46 : decode cX0_state 46 = .ok (.iadd, 1) := dk_96 (dk_at dksX0_state_2 10 rfl rfl)
theorem dX0_state_47 : decode cX0_state 47 = .ok (.aload_n 2, 1) := dk_44 (dk_at dksX0_state_2 11 rfl rfl)
theorem dX0_state_48 : decode cX0_state 48 = .ok (.iconst 2, 1) := dk_5 (dk_at dksX0_state_2 12 rfl rfl)
theorem dX0_state_49 : decode cX0_state 49 = .ok (.invokevirtual 246, 3) := dk_182 0 246 (dk_at dksX0_state_2 13 rfl rfl)
theorem dX0_state_52 : decode cX0_state 52 = .ok (.iadd, 1) := dk_96 (dk_at dksX0_state_2 16 rfl rfl)
theorem dX0_state_53 : decode cX0_state 53 = .ok (.ireturn, 1) := dk_172 (dk_at dksX0_state_2 17 rfl rfl)
theorem dX0_state_54 : decode cX0_state 54 = .ok (.aload_n 2, 1) := dk_44 (dk_at dksX0_state_2 18 rfl rfl)
theorem dX0_state_55 : decode cX0_state 55 = .ok (.getfield 178, 3) := dk_180 0 178 (dk_at dksX0_state_2 19 rfl rfl)
theorem dX0_state_58 : decode cX0_state 58 = .ok (.iconst 0, 1) := dk_3 (dk_at dksX0_state_2 22 rfl rfl)
theorem dX0_state_59 : decode cX0_state 59 = .ok (.iaload, 1) := dk_46 (dk_at dksX0_state_2 23 rfl rfl)
theorem dX0_state_60 : decode cX0_state 60 = .ok (.aload_n 2, 1) := dk_44 (dk_at dksX0_state_3 0 rfl rfl)
theorem dX0_state_61 : decode cX0_state 61 = .ok (.getfield 178, 3) := dk_180 0 178 (dk_at dksX0_state_3 1 rfl rfl)
theorem dX0_state_64 : decode cX0_state 64 = .ok (.iconst 1, 1) := dk_4 (dk_at dksX0_state_3 4 rfl rfl)
theorem dX0_state_65 : decode cX0_state 65 = .ok (.iaload, 1) := dk_46 (dk_at dksX0_state_3 5 rfl rfl)
theorem dX0_state_66 : decode cX0_state 66 = .ok (.iadd, 1) := dk_96 (dk_at dksX0_state_3 6 rfl rfl)
theorem dX0_state_67 : decode cX0_state 67 = .ok (.aload_n 2, 1) := dk_44 (dk_at dksX0_state_3 7 rfl rfl)
theorem dX0_state_68 : decode cX0_state 68 = .ok (.getfield 178, 3) := dk_180 0 178 (dk_at dksX0_state_3 8 rfl rfl)
theorem dX0_state_71 : decode cX0_state 71 = .ok (.iconst 2, 1) := dk_5 (dk_at dksX0_state_3 11 rfl rfl)
theorem dX0_state_72 : decode cX0_state 72 = .ok (.iaload, 1) := dk_46 (dk_at dksX0_state_3 12 rfl rfl)
theorem dX0_state_73 : decode cX0_state 73 = .ok (.iadd, 1) := dk_96 (dk_at dksX0_state_3 13 rfl rfl)
theorem dX0_state_74 : decode cX0_state 74 = .ok (.ireturn, 1) := dk_172 (dk_at dksX0_state_3 14 rfl rfl)
theorem dX0_state_75 : decode cX0_state 75 = .ok (.aload_n 2, 1) := dk_44 (dk_at dksX0_state_3 15 rfl rfl)
theorem dX0_state_76 : decode cX0_state 76 = .ok (.invokevirtual 47, 3) := dk_182 0 47 (dk_at dksX0_state_3 16 rfl rfl)
theorem dX0_state_79 : decode cX0_state 79 = .ok (.ireturn, 1) := dk_172 (dk_at dksX0_state_3 19 rfl rfl)
theorem dX0_state_80 : decode cX0_state 80 = .ok (.aload_n 0, 1) := dk_42 (dk_at dksX0_state_3 20 rfl rfl)
theorem dX0_state_81 : decode cX0_state 81 = .ok (.bipush (-2), 2) := dk_16 254 (dk_at dksX0_state_3 21 rfl rfl)
theorem dX0_state_83 : decode cX0_state 83 = .ok (.invokevirtual 79, 3) := dk_182 0 79 (dk_at dksX0_state_4 0 rfl rfl)
theorem dX0_state_86 : decode cX0_state 86 = .ok (.ireturn, 1) := dk_172 (dk_at dksX0_state_4 3 rfl rfl)
abbrev cX0_gets : ByteArray := prog_1_method_38_code
def yX0_gets : MethodName := ⟨RX0, "gets", "(III)I"⟩
def dkwX0_gets_3 : List UInt8 := [172]
abbrev dktX0_gets_3 : List UInt8 := dkwX0_gets_3 ++ []
def dkwX0_gets_2 : List UInt8 := [42, 180, 0, 59, 180, 0, 85, 28, 29, 182, 1, 4, 172, 58, 4, 42, 25, 4, 180, 0, 133, 182, 0, 79]
abbrev dktX0_gets_2 : List UInt8 := dkwX0_gets_2 ++ dktX0_gets_3
def dkwX0_gets_1 : List UInt8 := [167, 0, 4, 3, 27, 182, 0, 252, 58, 4, 25, 4, 42, 180, 0, 59, 180, 0, 85, 182, 1, 0, 25, 4]
abbrev dktX0_gets_1 : List UInt8 := dkwX0_gets_1 ++ dktX0_gets_2
def dkwX0_gets_0 : List UInt8 := [42, 42, 28, 182, 0, 204, 153, 0, 21, 42, 180, 0, 59, 180, 0, 85, 29, 182, 0, 249, 153, 0, 7, 4]
abbrev dktX0_gets_0 : List UInt8 := dkwX0_gets_0 ++ dktX0_gets_1
theorem dksX0_gets_0 : cX0_gets.data.toList.drop 0 = dktX0_gets_0 := by decide +kernel
theorem dksX0_gets_1 : cX0_gets.data.toList.drop 24 = dktX0_gets_1 := dk_seg dksX0_gets_0 24 rfl rfl
theorem dksX0_gets_2 : cX0_gets.data.toList.drop 48 = dktX0_gets_2 := dk_seg dksX0_gets_1 24 rfl rfl
theorem dksX0_gets_3 : cX0_gets.data.toList.drop 72 = dktX0_gets_3 := dk_seg dksX0_gets_2 24 rfl rfl
theorem dX0_gets_0 : decode cX0_gets 0 = .ok (.aload_n 0, 1) := dk_42 (dk_at dksX0_gets_0 0 rfl rfl)
theorem dX0_gets_1 : decode cX0_gets 1 = .ok (.aload_n 0, 1) := dk_42 (dk_at dksX0_gets_0 1 rfl rfl)
theorem dX0_gets_2 : decode cX0_gets 2 = .ok (.iload_n 2, 1) := dk_28 (dk_at dksX0_gets_0 2 rfl rfl)
theorem dX0_gets_3 : decode cX0_gets 3 = .ok (.invokevirtual 204, 3) := dk_182 0 204 (dk_at dksX0_gets_0 3 rfl rfl)
theorem dX0_gets_6 : decode cX0_gets 6 = .ok (.ifCond .eq 21, 3) := dk_153 0 21 (dk_at dksX0_gets_0 6 rfl rfl)
theorem dX0_gets_9 : decode cX0_gets 9 = .ok (.aload_n 0, 1) := dk_42 (dk_at dksX0_gets_0 9 rfl rfl)
theorem dX0_gets_10 : decode cX0_gets 10 = .ok (.getfield 59, 3) := dk_180 0 59 (dk_at dksX0_gets_0 10 rfl rfl)
theorem dX0_gets_13 : decode cX0_gets 13 = .ok (.getfield 85, 3) := dk_180 0 85 (dk_at dksX0_gets_0 13 rfl rfl)
theorem dX0_gets_16 : decode cX0_gets 16 = .ok (.iload_n 3, 1) := dk_29 (dk_at dksX0_gets_0 16 rfl rfl)
theorem dX0_gets_17 : decode cX0_gets 17 = .ok (.invokevirtual 249, 3) := dk_182 0 249 (dk_at dksX0_gets_0 17 rfl rfl)
theorem dX0_gets_20 : decode cX0_gets 20 = .ok (.ifCond .eq 7, 3) := dk_153 0 7 (dk_at dksX0_gets_0 20 rfl rfl)
theorem dX0_gets_23 : decode cX0_gets 23 = .ok (.iconst 1, 1) := dk_4 (dk_at dksX0_gets_0 23 rfl rfl)
theorem dX0_gets_24 : decode cX0_gets 24 = .ok (.goto 4, 3) := dk_167 0 4 (dk_at dksX0_gets_1 0 rfl rfl)
theorem dX0_gets_27 : decode cX0_gets 27 = .ok (.iconst 0, 1) := dk_3 (dk_at dksX0_gets_1 3 rfl rfl)
theorem dX0_gets_28 : decode cX0_gets 28 = .ok (.iload_n 1, 1) := dk_27 (dk_at dksX0_gets_1 4 rfl rfl)
theorem dX0_gets_29 : decode cX0_gets 29 = .ok (.invokevirtual 252, 3) := dk_182 0 252 (dk_at dksX0_gets_1 5 rfl rfl)
theorem dX0_gets_32 : decode cX0_gets 32 = .ok (.astore 4, 2) := dk_58 4 (dk_at dksX0_gets_1 8 rfl rfl)
theorem dX0_gets_34 : decode cX0_gets 34 = .ok (.aload 4, 2) := dk_25 4 (dk_at dksX0_gets_1 10 rfl rfl)
theorem dX0_gets_36 : decode cX0_gets 36 = .ok (.aload_n 0, 1) := dk_42 (dk_at dksX0_gets_1 12 rfl rfl)
theorem dX0_gets_37 : decode cX0_gets 37 = .ok (.getfield 59, 3) := dk_180 0 59 (dk_at dksX0_gets_1 13 rfl rfl)
theorem dX0_gets_40 : decode cX0_gets 40 = .ok (.getfield 85, 3) := dk_180 0 85 (dk_at dksX0_gets_1 16 rfl rfl)
theorem dX0_gets_43 : decode cX0_gets 43 = .ok (.invokevirtual 256, 3) := dk_182 1 0 (dk_at dksX0_gets_1 19 rfl rfl)
theorem dX0_gets_46 : decode cX0_gets 46 = .ok (.aload 4, 2) := dk_25 4 (dk_at dksX0_gets_1 22 rfl rfl)
theorem dX0_gets_48 : decode cX0_gets 48 = .ok (.aload_n 0, 1) := dk_42 (dk_at dksX0_gets_2 0 rfl rfl)
theorem dX0_gets_49 : decode cX0_gets 49 = .ok (.getfield 59, 3) := dk_180 0 59 (dk_at dksX0_gets_2 1 rfl rfl)
theorem dX0_gets_52 : decode cX0_gets 52 = .ok (.getfield 85, 3) := dk_180 0 85 (dk_at dksX0_gets_2 4 rfl rfl)
theorem dX0_gets_55 : decode cX0_gets 55 = .ok (.iload_n 2, 1) := dk_28 (dk_at dksX0_gets_2 7 rfl rfl)
theorem dX0_gets_56 : decode cX0_gets 56 = .ok (.iload_n 3, 1) := dk_29 (dk_at dksX0_gets_2 8 rfl rfl)
theorem dX0_gets_57 : decode cX0_gets 57 = .ok (.invokevirtual 260, 3) := dk_182 1 4 (dk_at dksX0_gets_2 9 rfl rfl)
theorem dX0_gets_60 : decode cX0_gets 60 = .ok (.ireturn, 1) := dk_172 (dk_at dksX0_gets_2 12 rfl rfl)
theorem dX0_gets_61 : decode cX0_gets 61 = .ok (.astore 4, 2) := dk_58 4 (dk_at dksX0_gets_2 13 rfl rfl)
theorem dX0_gets_63 : decode cX0_gets 63 = .ok (.aload_n 0, 1) := dk_42 (dk_at dksX0_gets_2 15 rfl rfl)
theorem dX0_gets_64 : decode cX0_gets 64 = .ok (.aload 4, 2) := dk_25 4 (dk_at dksX0_gets_2 16 rfl rfl)
theorem dX0_gets_66 : decode cX0_gets 66 = .ok (.getfield 133, 3) := dk_180 0 133 (dk_at dksX0_gets_2 18 rfl rfl)
theorem dX0_gets_69 : decode cX0_gets 69 = .ok (.invokevirtual 79, 3) := dk_182 0 79 (dk_at dksX0_gets_2 21 rfl rfl)
theorem dX0_gets_72 : decode cX0_gets 72 = .ok (.ireturn, 1) := dk_172 (dk_at dksX0_gets_3 0 rfl rfl)
abbrev cX0_ruleFor : ByteArray := prog_1_method_25_code
def yX0_ruleFor : MethodName := ⟨RX0, "ruleFor", "(ZI)LThreeSizes$Rule;"⟩
def dkwX0_ruleFor_2 : List UInt8 := [193, 0, 120, 154, 0, 13, 187, 0, 122, 89, 16, 253, 183, 0, 124, 191, 45, 192, 0, 120, 176]
abbrev dktX0_ruleFor_2 : List UInt8 := dkwX0_ruleFor_2 ++ []
def dkwX0_ruleFor_1 : List UInt8 := [180, 0, 65, 28, 50, 180, 0, 114, 78, 45, 199, 0, 13, 187, 0, 122, 89, 16, 252, 183, 0, 124, 191, 45]
abbrev dktX0_ruleFor_1 : List UInt8 := dkwX0_ruleFor_1 ++ dktX0_ruleFor_2
def dkwX0_ruleFor_0 : List UInt8 := [27, 153, 0, 10, 28, 184, 0, 106, 154, 0, 13, 187, 0, 122, 89, 16, 254, 183, 0, 124, 191, 42]
abbrev dktX0_ruleFor_0 : List UInt8 := dkwX0_ruleFor_0 ++ dktX0_ruleFor_1
theorem dksX0_ruleFor_0 : cX0_ruleFor.data.toList.drop 0 = dktX0_ruleFor_0 := by decide +kernel
theorem dksX0_ruleFor_1 : cX0_ruleFor.data.toList.drop 22 = dktX0_ruleFor_1 := dk_seg dksX0_ruleFor_0 22 rfl rfl
theorem dksX0_ruleFor_2 : cX0_ruleFor.data.toList.drop 46 = dktX0_ruleFor_2 := dk_seg dksX0_ruleFor_1 24 rfl rfl
theorem dX0_ruleFor_0 : decode cX0_ruleFor 0 = .ok (.iload_n 1, 1) := dk_27 (dk_at dksX0_ruleFor_0 0 rfl rfl)
theorem dX0_ruleFor_1 : decode cX0_ruleFor 1 = .ok (.ifCond .eq 10, 3) := dk_153 0 10 (dk_at dksX0_ruleFor_0 1 rfl rfl)
theorem dX0_ruleFor_4 : decode cX0_ruleFor 4 = .ok (.iload_n 2, 1) := dk_28 (dk_at dksX0_ruleFor_0 4 rfl rfl)
theorem dX0_ruleFor_5 : decode cX0_ruleFor 5 = .ok (.invokestatic 106, 3) := dk_184 0 106 (dk_at dksX0_ruleFor_0 5 rfl rfl)
theorem dX0_ruleFor_8 : decode cX0_ruleFor 8 = .ok (.ifCond .ne 13, 3) := dk_154 0 13 (dk_at dksX0_ruleFor_0 8 rfl rfl)
theorem dX0_ruleFor_11 : decode cX0_ruleFor 11 = .ok (.new 122, 3) := dk_187 0 122 (dk_at dksX0_ruleFor_0 11 rfl rfl)
theorem dX0_ruleFor_14 : decode cX0_ruleFor 14 = .ok (.dup, 1) := dk_89 (dk_at dksX0_ruleFor_0 14 rfl rfl)
theorem dX0_ruleFor_15 : decode cX0_ruleFor 15 = .ok (.bipush (-2), 2) := dk_16 254 (dk_at dksX0_ruleFor_0 15 rfl rfl)
theorem dX0_ruleFor_17 : decode cX0_ruleFor 17 = .ok (.invokespecial 124, 3) := dk_183 0 124 (dk_at dksX0_ruleFor_0 17 rfl rfl)
theorem dX0_ruleFor_20 : decode cX0_ruleFor 20 = .ok (.athrow, 1) := dk_191 (dk_at dksX0_ruleFor_0 20 rfl rfl)
theorem dX0_ruleFor_21 : decode cX0_ruleFor 21 = .ok (.aload_n 0, 1) := dk_42 (dk_at dksX0_ruleFor_0 21 rfl rfl)
theorem dX0_ruleFor_22 : decode cX0_ruleFor 22 = .ok (.getfield 65, 3) := dk_180 0 65 (dk_at dksX0_ruleFor_1 0 rfl rfl)
theorem dX0_ruleFor_25 : decode cX0_ruleFor 25 = .ok (.iload_n 2, 1) := dk_28 (dk_at dksX0_ruleFor_1 3 rfl rfl)
theorem dX0_ruleFor_26 : decode cX0_ruleFor 26 = .ok (.aaload, 1) := dk_50 (dk_at dksX0_ruleFor_1 4 rfl rfl)
theorem dX0_ruleFor_27 : decode cX0_ruleFor 27 = .ok (.getfield 114, 3) := dk_180 0 114 (dk_at dksX0_ruleFor_1 5 rfl rfl)
theorem dX0_ruleFor_30 : decode cX0_ruleFor 30 = .ok (.astore_n 3, 1) := dk_78 (dk_at dksX0_ruleFor_1 8 rfl rfl)
theorem dX0_ruleFor_31 : decode cX0_ruleFor 31 = .ok (.aload_n 3, 1) := dk_45 (dk_at dksX0_ruleFor_1 9 rfl rfl)
theorem dX0_ruleFor_32 : decode cX0_ruleFor 32 = .ok (.ifnonnull 13, 3) := dk_199 0 13 (dk_at dksX0_ruleFor_1 10 rfl rfl)
theorem dX0_ruleFor_35 : decode cX0_ruleFor 35 = .ok (.new 122, 3) := dk_187 0 122 (dk_at dksX0_ruleFor_1 13 rfl rfl)
theorem dX0_ruleFor_38 : decode cX0_ruleFor 38 = .ok (.dup, 1) := dk_89 (dk_at dksX0_ruleFor_1 16 rfl rfl)
theorem dX0_ruleFor_39 : decode cX0_ruleFor 39 = .ok (.bipush (-4), 2) := dk_16 252 (dk_at dksX0_ruleFor_1 17 rfl rfl)
theorem dX0_ruleFor_41 : decode cX0_ruleFor 41 = .ok (.invokespecial 124, 3) := dk_183 0 124 (dk_at dksX0_ruleFor_1 19 rfl rfl)
theorem dX0_ruleFor_44 : decode cX0_ruleFor 44 = .ok (.athrow, 1) := dk_191 (dk_at dksX0_ruleFor_1 22 rfl rfl)
theorem dX0_ruleFor_45 : decode cX0_ruleFor 45 = .ok (.aload_n 3, 1) := dk_45 (dk_at dksX0_ruleFor_1 23 rfl rfl)
theorem dX0_ruleFor_46 : decode cX0_ruleFor 46 = .ok (.instanceof 120, 3) := dk_193 0 120 (dk_at dksX0_ruleFor_2 0 rfl rfl)
theorem dX0_ruleFor_49 : decode cX0_ruleFor 49 = .ok (.ifCond .ne 13, 3) := dk_154 0 13 (dk_at dksX0_ruleFor_2 3 rfl rfl)
theorem dX0_ruleFor_52 : decode cX0_ruleFor 52 = .ok (.new 122, 3) := dk_187 0 122 (dk_at dksX0_ruleFor_2 6 rfl rfl)
theorem dX0_ruleFor_55 : decode cX0_ruleFor 55 = .ok (.dup, 1) := dk_89 (dk_at dksX0_ruleFor_2 9 rfl rfl)
theorem dX0_ruleFor_56 : decode cX0_ruleFor 56 = .ok (.bipush (-3), 2) := dk_16 253 (dk_at dksX0_ruleFor_2 10 rfl rfl)
theorem dX0_ruleFor_58 : decode cX0_ruleFor 58 = .ok (.invokespecial 124, 3) := dk_183 0 124 (dk_at dksX0_ruleFor_2 12 rfl rfl)
theorem dX0_ruleFor_61 : decode cX0_ruleFor 61 = .ok (.athrow, 1) := dk_191 (dk_at dksX0_ruleFor_2 15 rfl rfl)
theorem dX0_ruleFor_62 : decode cX0_ruleFor 62 = .ok (.aload_n 3, 1) := dk_45 (dk_at dksX0_ruleFor_2 16 rfl rfl)
theorem dX0_ruleFor_63 : decode cX0_ruleFor 63 = .ok (.checkcast 120, 3) := dk_192 0 120 (dk_at dksX0_ruleFor_2 17 rfl rfl)
theorem dX0_ruleFor_66 : decode cX0_ruleFor 66 = .ok (.areturn, 1) := dk_176 (dk_at dksX0_ruleFor_2 20 rfl rfl)
abbrev cX0_lost : ByteArray := prog_1_method_39_code
def yX0_lost : MethodName := ⟨RX0, "lost", "(I)J"⟩
def dkwX0_lost_1 : List UInt8 := [16, 254, 182, 1, 12, 173]
abbrev dktX0_lost_1 : List UInt8 := dkwX0_lost_1 ++ []
def dkwX0_lost_0 : List UInt8 := [42, 27, 182, 0, 204, 153, 0, 17, 42, 180, 0, 59, 180, 0, 85, 27, 182, 1, 8, 167, 0, 9, 42]
abbrev dktX0_lost_0 : List UInt8 := dkwX0_lost_0 ++ dktX0_lost_1
theorem dksX0_lost_0 : cX0_lost.data.toList.drop 0 = dktX0_lost_0 := by decide +kernel
theorem dksX0_lost_1 : cX0_lost.data.toList.drop 23 = dktX0_lost_1 := dk_seg dksX0_lost_0 23 rfl rfl
theorem dX0_lost_0 : decode cX0_lost 0 = .ok (.aload_n 0, 1) := dk_42 (dk_at dksX0_lost_0 0 rfl rfl)
theorem dX0_lost_1 : decode cX0_lost 1 = .ok (.iload_n 1, 1) := dk_27 (dk_at dksX0_lost_0 1 rfl rfl)
theorem dX0_lost_2 : decode cX0_lost 2 = .ok (.invokevirtual 204, 3) := dk_182 0 204 (dk_at dksX0_lost_0 2 rfl rfl)
theorem dX0_lost_5 : decode cX0_lost 5 = .ok (.ifCond .eq 17, 3) := dk_153 0 17 (dk_at dksX0_lost_0 5 rfl rfl)
theorem dX0_lost_8 : decode cX0_lost 8 = .ok (.aload_n 0, 1) := dk_42 (dk_at dksX0_lost_0 8 rfl rfl)
theorem dX0_lost_9 : decode cX0_lost 9 = .ok (.getfield 59, 3) := dk_180 0 59 (dk_at dksX0_lost_0 9 rfl rfl)
theorem dX0_lost_12 : decode cX0_lost 12 = .ok (.getfield 85, 3) := dk_180 0 85 (dk_at dksX0_lost_0 12 rfl rfl)
theorem dX0_lost_15 : decode cX0_lost 15 = .ok (.iload_n 1, 1) := dk_27 (dk_at dksX0_lost_0 15 rfl rfl)
theorem dX0_lost_16 : decode cX0_lost 16 = .ok (.invokevirtual 264, 3) := dk_182 1 8 (dk_at dksX0_lost_0 16 rfl rfl)
theorem dX0_lost_19 : decode cX0_lost 19 = .ok (.goto 9, 3) := dk_167 0 9 (dk_at dksX0_lost_0 19 rfl rfl)
theorem dX0_lost_22 : decode cX0_lost 22 = .ok (.aload_n 0, 1) := dk_42 (dk_at dksX0_lost_0 22 rfl rfl)
theorem dX0_lost_23 : decode cX0_lost 23 = .ok (.bipush (-2), 2) := dk_16 254 (dk_at dksX0_lost_1 0 rfl rfl)
theorem dX0_lost_25 : decode cX0_lost 25 = .ok (.invokevirtual 268, 3) := dk_182 1 12 (dk_at dksX0_lost_1 2 rfl rfl)
theorem dX0_lost_28 : decode cX0_lost 28 = .ok (.lreturn, 1) := dk_173 (dk_at dksX0_lost_1 5 rfl rfl)
abbrev cX0_noDeep : ByteArray := prog_1_method_9_code
def yX0_noDeep : MethodName := ⟨RX0, "noDeep", "(I)J"⟩
def dkwX0_noDeep_0 : List UInt8 := [20, 0, 77, 42, 27, 182, 0, 79, 133, 97, 173]
abbrev dktX0_noDeep_0 : List UInt8 := dkwX0_noDeep_0 ++ []
theorem dksX0_noDeep_0 : cX0_noDeep.data.toList.drop 0 = dktX0_noDeep_0 := by decide +kernel
theorem dX0_noDeep_0 : decode cX0_noDeep 0 = .ok (.ldc2_w 77, 3) := dk_20 0 77 (dk_at dksX0_noDeep_0 0 rfl rfl)
theorem dX0_noDeep_3 : decode cX0_noDeep 3 = .ok (.aload_n 0, 1) := dk_42 (dk_at dksX0_noDeep_0 3 rfl rfl)
theorem dX0_noDeep_4 : decode cX0_noDeep 4 = .ok (.iload_n 1, 1) := dk_27 (dk_at dksX0_noDeep_0 4 rfl rfl)
theorem dX0_noDeep_5 : decode cX0_noDeep 5 = .ok (.invokevirtual 79, 3) := dk_182 0 79 (dk_at dksX0_noDeep_0 5 rfl rfl)
theorem dX0_noDeep_8 : decode cX0_noDeep 8 = .ok (.i2l, 1) := dk_133 (dk_at dksX0_noDeep_0 8 rfl rfl)
theorem dX0_noDeep_9 : decode cX0_noDeep 9 = .ok (.ladd, 1) := dk_97 (dk_at dksX0_noDeep_0 9 rfl rfl)
theorem dX0_noDeep_10 : decode cX0_noDeep 10 = .ok (.lreturn, 1) := dk_173 (dk_at dksX0_noDeep_0 10 rfl rfl)
abbrev cX0_value : ByteArray := prog_1_method_41_code
def yX0_value : MethodName := ⟨RX0, "value", "(II)J"⟩
def dkwX0_value_1 : List UInt8 := [173]
abbrev dktX0_value_1 : List UInt8 := dkwX0_value_1 ++ []
def dkwX0_value_0 : List UInt8 := [42, 42, 28, 184, 1, 15, 27, 182, 0, 252, 28, 182, 1, 18, 173, 78, 42, 45, 180, 0, 133, 182, 1, 12]
abbrev dktX0_value_0 : List UInt8 := dkwX0_value_0 ++ dktX0_value_1
theorem dksX0_value_0 : cX0_value.data.toList.drop 0 = dktX0_value_0 := by decide +kernel
theorem dksX0_value_1 : cX0_value.data.toList.drop 24 = dktX0_value_1 := dk_seg dksX0_value_0 24 rfl rfl
theorem dX0_value_0 : decode cX0_value 0 = .ok (.aload_n 0, 1) := dk_42 (dk_at dksX0_value_0 0 rfl rfl)
theorem dX0_value_1 : decode cX0_value 1 = .ok (.aload_n 0, 1) := dk_42 (dk_at dksX0_value_0 1 rfl rfl)
theorem dX0_value_2 : decode cX0_value 2 = .ok (.iload_n 2, 1) := dk_28 (dk_at dksX0_value_0 2 rfl rfl)
theorem dX0_value_3 : decode cX0_value 3 = .ok (.invokestatic 271, 3) := dk_184 1 15 (dk_at dksX0_value_0 3 rfl rfl)
theorem dX0_value_6 : decode cX0_value 6 = .ok (.iload_n 1, 1) := dk_27 (dk_at dksX0_value_0 6 rfl rfl)
theorem dX0_value_7 : decode cX0_value 7 = .ok (.invokevirtual 252, 3) := dk_182 0 252 (dk_at dksX0_value_0 7 rfl rfl)
theorem dX0_value_10 : decode cX0_value 10 = .ok (.iload_n 2, 1) := dk_28 (dk_at dksX0_value_0 10 rfl rfl)
theorem dX0_value_11 : decode cX0_value 11 = .ok (.invokevirtual 274, 3) := dk_182 1 18 (dk_at dksX0_value_0 11 rfl rfl)
theorem dX0_value_14 : decode cX0_value 14 = .ok (.lreturn, 1) := dk_173 (dk_at dksX0_value_0 14 rfl rfl)
theorem dX0_value_15 : decode cX0_value 15 = .ok (.astore_n 3, 1) := dk_78 (dk_at dksX0_value_0 15 rfl rfl)
theorem dX0_value_16 : decode cX0_value 16 = .ok (.aload_n 0, 1) := dk_42 (dk_at dksX0_value_0 16 rfl rfl)
theorem dX0_value_17 : decode cX0_value 17 = .ok (.aload_n 3, 1) := dk_45 (dk_at dksX0_value_0 17 rfl rfl)
theorem dX0_value_18 : decode cX0_value 18 = .ok (.getfield 133, 3) := dk_180 0 133 (dk_at dksX0_value_0 18 rfl rfl)
theorem dX0_value_21 : decode cX0_value 21 = .ok (.invokevirtual 268, 3) := dk_182 1 12 (dk_at dksX0_value_0 21 rfl rfl)
theorem dX0_value_24 : decode cX0_value 24 = .ok (.lreturn, 1) := dk_173 (dk_at dksX0_value_1 0 rfl rfl)
abbrev cX0_isHours : ByteArray := prog_1_method_13_code
def yX0_isHours : MethodName := ⟨RX0, "isHours", "(I)Z"⟩
def dkwX0_isHours_0 : List UInt8 := [26, 3, 16, 24, 184, 0, 82, 172]
abbrev dktX0_isHours_0 : List UInt8 := dkwX0_isHours_0 ++ []
theorem dksX0_isHours_0 : cX0_isHours.data.toList.drop 0 = dktX0_isHours_0 := by decide +kernel
theorem dX0_isHours_0 : decode cX0_isHours 0 = .ok (.iload_n 0, 1) := dk_26 (dk_at dksX0_isHours_0 0 rfl rfl)
theorem dX0_isHours_1 : decode cX0_isHours 1 = .ok (.iconst 0, 1) := dk_3 (dk_at dksX0_isHours_0 1 rfl rfl)
theorem dX0_isHours_2 : decode cX0_isHours 2 = .ok (.bipush 24, 2) := dk_16 24 (dk_at dksX0_isHours_0 2 rfl rfl)
theorem dX0_isHours_4 : decode cX0_isHours 4 = .ok (.invokestatic 82, 3) := dk_184 0 82 (dk_at dksX0_isHours_0 4 rfl rfl)
theorem dX0_isHours_7 : decode cX0_isHours 7 = .ok (.ireturn, 1) := dk_172 (dk_at dksX0_isHours_0 7 rfl rfl)
abbrev cX0_valueOf : ByteArray := prog_1_method_40_code
def yX0_valueOf : MethodName := ⟨RX0, "valueOf", "(LThreeSizes$Rule;I)J"⟩
def dkwX0_valueOf_1 : List UInt8 := [180, 0, 85, 182, 0, 47, 47, 173]
abbrev dktX0_valueOf_1 : List UInt8 := dkwX0_valueOf_1 ++ []
def dkwX0_valueOf_0 : List UInt8 := [187, 0, 38, 89, 42, 180, 0, 59, 180, 0, 85, 43, 183, 0, 40, 28, 182, 0, 43, 42, 180, 0, 59]
abbrev dktX0_valueOf_0 : List UInt8 := dkwX0_valueOf_0 ++ dktX0_valueOf_1
theorem dksX0_valueOf_0 : cX0_valueOf.data.toList.drop 0 = dktX0_valueOf_0 := by decide +kernel
theorem dksX0_valueOf_1 : cX0_valueOf.data.toList.drop 23 = dktX0_valueOf_1 := dk_seg dksX0_valueOf_0 23 rfl rfl
theorem dX0_valueOf_0 : decode cX0_valueOf 0 = .ok (.new 38, 3) := dk_187 0 38 (dk_at dksX0_valueOf_0 0 rfl rfl)
theorem dX0_valueOf_3 : decode cX0_valueOf 3 = .ok (.dup, 1) := dk_89 (dk_at dksX0_valueOf_0 3 rfl rfl)
theorem dX0_valueOf_4 : decode cX0_valueOf 4 = .ok (.aload_n 0, 1) := dk_42 (dk_at dksX0_valueOf_0 4 rfl rfl)
theorem dX0_valueOf_5 : decode cX0_valueOf 5 = .ok (.getfield 59, 3) := dk_180 0 59 (dk_at dksX0_valueOf_0 5 rfl rfl)
theorem dX0_valueOf_8 : decode cX0_valueOf 8 = .ok (.getfield 85, 3) := dk_180 0 85 (dk_at dksX0_valueOf_0 8 rfl rfl)
theorem dX0_valueOf_11 : decode cX0_valueOf 11 = .ok (.aload_n 1, 1) := dk_43 (dk_at dksX0_valueOf_0 11 rfl rfl)
theorem dX0_valueOf_12 : decode cX0_valueOf 12 = .ok (.invokespecial 40, 3) := dk_183 0 40 (dk_at dksX0_valueOf_0 12 rfl rfl)
theorem dX0_valueOf_15 : decode cX0_valueOf 15 = .ok (.iload_n 2, 1) := dk_28 (dk_at dksX0_valueOf_0 15 rfl rfl)
theorem dX0_valueOf_16 : decode cX0_valueOf 16 = .ok (.invokevirtual 43, 3) := dk_182 0 43 (dk_at dksX0_valueOf_0 16 rfl rfl)
theorem dX0_valueOf_19 : decode cX0_valueOf 19 = .ok (.aload_n 0, 1) := dk_42 (dk_at dksX0_valueOf_0 19 rfl rfl)
theorem dX0_valueOf_20 : decode cX0_valueOf 20 = .ok (.getfield 59, 3) := dk_180 0 59 (dk_at dksX0_valueOf_0 20 rfl rfl)
theorem dX0_valueOf_23 : decode cX0_valueOf 23 = .ok (.getfield 85, 3) := dk_180 0 85 (dk_at dksX0_valueOf_1 0 rfl rfl)
theorem dX0_valueOf_26 : decode cX0_valueOf 26 = .ok (.invokevirtual 47, 3) := dk_182 0 47 (dk_at dksX0_valueOf_1 3 rfl rfl)
theorem dX0_valueOf_29 : decode cX0_valueOf 29 = .ok (.laload, 1) := dk_47 (dk_at dksX0_valueOf_1 6 rfl rfl)
theorem dX0_valueOf_30 : decode cX0_valueOf 30 = .ok (.lreturn, 1) := dk_173 (dk_at dksX0_valueOf_1 7 rfl rfl)
abbrev cX0_best : ByteArray := prog_1_method_42_code
def yX0_best : MethodName := ⟨RX0, "best", "(I)J"⟩
def dkwX0_best_1 : List UInt8 := [182, 1, 12, 173]
abbrev dktX0_best_1 : List UInt8 := dkwX0_best_1 ++ []
def dkwX0_best_0 : List UInt8 := [27, 184, 1, 15, 153, 0, 17, 42, 180, 0, 59, 180, 0, 85, 27, 184, 1, 22, 167, 0, 9, 42, 16, 254]
abbrev dktX0_best_0 : List UInt8 := dkwX0_best_0 ++ dktX0_best_1
theorem dksX0_best_0 : cX0_best.data.toList.drop 0 = dktX0_best_0 := by decide +kernel
theorem dksX0_best_1 : cX0_best.data.toList.drop 24 = dktX0_best_1 := dk_seg dksX0_best_0 24 rfl rfl
theorem dX0_best_0 : decode cX0_best 0 = .ok (.iload_n 1, 1) := dk_27 (dk_at dksX0_best_0 0 rfl rfl)
theorem dX0_best_1 : decode cX0_best 1 = .ok (.invokestatic 271, 3) := dk_184 1 15 (dk_at dksX0_best_0 1 rfl rfl)
theorem dX0_best_4 : decode cX0_best 4 = .ok (.ifCond .eq 17, 3) := dk_153 0 17 (dk_at dksX0_best_0 4 rfl rfl)
theorem dX0_best_7 : decode cX0_best 7 = .ok (.aload_n 0, 1) := dk_42 (dk_at dksX0_best_0 7 rfl rfl)
theorem dX0_best_8 : decode cX0_best 8 = .ok (.getfield 59, 3) := dk_180 0 59 (dk_at dksX0_best_0 8 rfl rfl)
theorem dX0_best_11 : decode cX0_best 11 = .ok (.getfield 85, 3) := dk_180 0 85 (dk_at dksX0_best_0 11 rfl rfl)
theorem dX0_best_14 : decode cX0_best 14 = .ok (.iload_n 1, 1) := dk_27 (dk_at dksX0_best_0 14 rfl rfl)
theorem dX0_best_15 : decode cX0_best 15 = .ok (.invokestatic 278, 3) := dk_184 1 22 (dk_at dksX0_best_0 15 rfl rfl)
theorem dX0_best_18 : decode cX0_best 18 = .ok (.goto 9, 3) := dk_167 0 9 (dk_at dksX0_best_0 18 rfl rfl)
theorem dX0_best_21 : decode cX0_best 21 = .ok (.aload_n 0, 1) := dk_42 (dk_at dksX0_best_0 21 rfl rfl)
theorem dX0_best_22 : decode cX0_best 22 = .ok (.bipush (-2), 2) := dk_16 254 (dk_at dksX0_best_0 22 rfl rfl)
theorem dX0_best_24 : decode cX0_best 24 = .ok (.invokevirtual 268, 3) := dk_182 1 12 (dk_at dksX0_best_1 0 rfl rfl)
theorem dX0_best_27 : decode cX0_best 27 = .ok (.lreturn, 1) := dk_173 (dk_at dksX0_best_1 3 rfl rfl)
abbrev cX0_best_2 : ByteArray := prog_1_method_6_code
def yX0_best_2 : MethodName := ⟨RX0, "best", "(LThreeSizes$Wall;I)J"⟩
def dkwX0_best_2_0 : List UInt8 := [187, 0, 38, 89, 42, 1, 183, 0, 40, 27, 182, 0, 43, 42, 182, 0, 47, 47, 173]
abbrev dktX0_best_2_0 : List UInt8 := dkwX0_best_2_0 ++ []
theorem dksX0_best_2_0 : cX0_best_2.data.toList.drop 0 = dktX0_best_2_0 := by decide +kernel
theorem dX0_best_2_0 : decode cX0_best_2 0 = .ok (.new 38, 3) := dk_187 0 38 (dk_at dksX0_best_2_0 0 rfl rfl)
theorem dX0_best_2_3 : decode cX0_best_2 3 = .ok (.dup, 1) := dk_89 (dk_at dksX0_best_2_0 3 rfl rfl)
theorem dX0_best_2_4 : decode cX0_best_2 4 = .ok (.aload_n 0, 1) := dk_42 (dk_at dksX0_best_2_0 4 rfl rfl)
theorem dX0_best_2_5 : decode cX0_best_2 5 = .ok (.aconst_null, 1) := dk_1 (dk_at dksX0_best_2_0 5 rfl rfl)
theorem dX0_best_2_6 : decode cX0_best_2 6 = .ok (.invokespecial 40, 3) := dk_183 0 40 (dk_at dksX0_best_2_0 6 rfl rfl)
theorem dX0_best_2_9 : decode cX0_best_2 9 = .ok (.iload_n 1, 1) := dk_27 (dk_at dksX0_best_2_0 9 rfl rfl)
theorem dX0_best_2_10 : decode cX0_best_2 10 = .ok (.invokevirtual 43, 3) := dk_182 0 43 (dk_at dksX0_best_2_0 10 rfl rfl)
theorem dX0_best_2_13 : decode cX0_best_2 13 = .ok (.aload_n 0, 1) := dk_42 (dk_at dksX0_best_2_0 13 rfl rfl)
theorem dX0_best_2_14 : decode cX0_best_2 14 = .ok (.invokevirtual 47, 3) := dk_182 0 47 (dk_at dksX0_best_2_0 14 rfl rfl)
theorem dX0_best_2_17 : decode cX0_best_2 17 = .ok (.laload, 1) := dk_47 (dk_at dksX0_best_2_0 17 rfl rfl)
theorem dX0_best_2_18 : decode cX0_best_2 18 = .ok (.lreturn, 1) := dk_173 (dk_at dksX0_best_2_0 18 rfl rfl)
abbrev cX0_now : ByteArray := prog_1_method_43_code
def yX0_now : MethodName := ⟨RX0, "now", "(II)I"⟩
def dkwX0_now_2 : List UInt8 := [180, 0, 59, 180, 0, 85, 1, 183, 0, 40, 28, 182, 0, 43, 184, 1, 26, 172]
abbrev dktX0_now_2 : List UInt8 := dkwX0_now_2 ++ []
def dkwX0_now_1 : List UInt8 := [180, 0, 59, 180, 0, 85, 27, 42, 180, 0, 59, 180, 0, 85, 182, 0, 47, 187, 0, 38, 89, 42]
abbrev dktX0_now_1 : List UInt8 := dkwX0_now_1 ++ dktX0_now_2
def dkwX0_now_0 : List UInt8 := [42, 27, 182, 0, 204, 153, 0, 10, 28, 184, 1, 15, 154, 0, 10, 42, 16, 254, 182, 0, 79, 172, 42]
abbrev dktX0_now_0 : List UInt8 := dkwX0_now_0 ++ dktX0_now_1
theorem dksX0_now_0 : cX0_now.data.toList.drop 0 = dktX0_now_0 := by decide +kernel
theorem dksX0_now_1 : cX0_now.data.toList.drop 23 = dktX0_now_1 := dk_seg dksX0_now_0 23 rfl rfl
theorem dksX0_now_2 : cX0_now.data.toList.drop 45 = dktX0_now_2 := dk_seg dksX0_now_1 22 rfl rfl
theorem dX0_now_0 : decode cX0_now 0 = .ok (.aload_n 0, 1) := dk_42 (dk_at dksX0_now_0 0 rfl rfl)
theorem dX0_now_1 : decode cX0_now 1 = .ok (.iload_n 1, 1) := dk_27 (dk_at dksX0_now_0 1 rfl rfl)
theorem dX0_now_2 : decode cX0_now 2 = .ok (.invokevirtual 204, 3) := dk_182 0 204 (dk_at dksX0_now_0 2 rfl rfl)
theorem dX0_now_5 : decode cX0_now 5 = .ok (.ifCond .eq 10, 3) := dk_153 0 10 (dk_at dksX0_now_0 5 rfl rfl)
theorem dX0_now_8 : decode cX0_now 8 = .ok (.iload_n 2, 1) := dk_28 (dk_at dksX0_now_0 8 rfl rfl)
theorem dX0_now_9 : decode cX0_now 9 = .ok (.invokestatic 271, 3) := dk_184 1 15 (dk_at dksX0_now_0 9 rfl rfl)
theorem dX0_now_12 : decode cX0_now 12 = .ok (.ifCond .ne 10, 3) := dk_154 0 10 (dk_at dksX0_now_0 12 rfl rfl)
theorem dX0_now_15 : decode cX0_now 15 = .ok (.aload_n 0, 1) := dk_42 (dk_at dksX0_now_0 15 rfl rfl)
theorem dX0_now_16 : decode cX0_now 16 = .ok (.bipush (-2), 2) := dk_16 254 (dk_at dksX0_now_0 16 rfl rfl)
theorem dX0_now_18 : decode cX0_now 18 = .ok (.invokevirtual 79, 3) := dk_182 0 79 (dk_at dksX0_now_0 18 rfl rfl)
theorem dX0_now_21 : decode cX0_now 21 = .ok (.ireturn, 1) := dk_172 (dk_at dksX0_now_0 21 rfl rfl)
theorem dX0_now_22 : decode cX0_now 22 = .ok (.aload_n 0, 1) := dk_42 (dk_at dksX0_now_0 22 rfl rfl)
theorem dX0_now_23 : decode cX0_now 23 = .ok (.getfield 59, 3) := dk_180 0 59 (dk_at dksX0_now_1 0 rfl rfl)
theorem dX0_now_26 : decode cX0_now 26 = .ok (.getfield 85, 3) := dk_180 0 85 (dk_at dksX0_now_1 3 rfl rfl)
theorem dX0_now_29 : decode cX0_now 29 = .ok (.iload_n 1, 1) := dk_27 (dk_at dksX0_now_1 6 rfl rfl)
theorem dX0_now_30 : decode cX0_now 30 = .ok (.aload_n 0, 1) := dk_42 (dk_at dksX0_now_1 7 rfl rfl)
theorem dX0_now_31 : decode cX0_now 31 = .ok (.getfield 59, 3) := dk_180 0 59 (dk_at dksX0_now_1 8 rfl rfl)
theorem dX0_now_34 : decode cX0_now 34 = .ok (.getfield 85, 3) := dk_180 0 85 (dk_at dksX0_now_1 11 rfl rfl)
theorem dX0_now_37 : decode cX0_now 37 = .ok (.invokevirtual 47, 3) := dk_182 0 47 (dk_at dksX0_now_1 14 rfl rfl)
theorem dX0_now_40 : decode cX0_now 40 = .ok (.new 38, 3) := dk_187 0 38 (dk_at dksX0_now_1 17 rfl rfl)
theorem dX0_now_43 : decode cX0_now 43 = .ok (.dup, 1) := dk_89 (dk_at dksX0_now_1 20 rfl rfl)
theorem dX0_now_44 : decode cX0_now 44 = .ok (.aload_n 0, 1) := dk_42 (dk_at dksX0_now_1 21 rfl rfl)
theorem dX0_now_45 : decode cX0_now 45 = .ok (.getfield 59, 3) := dk_180 0 59 (dk_at dksX0_now_2 0 rfl rfl)
theorem dX0_now_48 : decode cX0_now 48 = .ok (.getfield 85, 3) := dk_180 0 85 (dk_at dksX0_now_2 3 rfl rfl)
theorem dX0_now_51 : decode cX0_now 51 = .ok (.aconst_null, 1) := dk_1 (dk_at dksX0_now_2 6 rfl rfl)
theorem dX0_now_52 : decode cX0_now 52 = .ok (.invokespecial 40, 3) := dk_183 0 40 (dk_at dksX0_now_2 7 rfl rfl)
theorem dX0_now_55 : decode cX0_now 55 = .ok (.iload_n 2, 1) := dk_28 (dk_at dksX0_now_2 10 rfl rfl)
theorem dX0_now_56 : decode cX0_now 56 = .ok (.invokevirtual 43, 3) := dk_182 0 43 (dk_at dksX0_now_2 11 rfl rfl)
theorem dX0_now_59 : decode cX0_now 59 = .ok (.invokestatic 282, 3) := dk_184 1 26 (dk_at dksX0_now_2 14 rfl rfl)
theorem dX0_now_62 : decode cX0_now 62 = .ok (.ireturn, 1) := dk_172 (dk_at dksX0_now_2 17 rfl rfl)
abbrev cX0_gap : ByteArray := prog_1_method_44_code
def yX0_gap : MethodName := ⟨RX0, "gap", "(II)J"⟩
def dkwX0_gap_1 : List UInt8 := [182, 1, 18, 101, 173, 78, 42, 45, 180, 0, 133, 182, 1, 12, 173]
abbrev dktX0_gap_1 : List UInt8 := dkwX0_gap_1 ++ []
def dkwX0_gap_0 : List UInt8 := [42, 28, 184, 1, 15, 27, 182, 0, 252, 78, 42, 180, 0, 59, 180, 0, 85, 28, 184, 1, 22, 42, 45, 28]
abbrev dktX0_gap_0 : List UInt8 := dkwX0_gap_0 ++ dktX0_gap_1
theorem dksX0_gap_0 : cX0_gap.data.toList.drop 0 = dktX0_gap_0 := by decide +kernel
theorem dksX0_gap_1 : cX0_gap.data.toList.drop 24 = dktX0_gap_1 := dk_seg dksX0_gap_0 24 rfl rfl
theorem dX0_gap_0 : decode cX0_gap 0 = .ok (.aload_n 0, 1) := dk_42 (dk_at dksX0_gap_0 0 rfl rfl)
theorem dX0_gap_1 : decode cX0_gap 1 = .ok (.iload_n 2, 1) := dk_28 (dk_at dksX0_gap_0 1 rfl rfl)
theorem dX0_gap_2 : decode cX0_gap 2 = .ok (.invokestatic 271, 3) := dk_184 1 15 (dk_at dksX0_gap_0 2 rfl rfl)
theorem dX0_gap_5 : decode cX0_gap 5 = .ok (.iload_n 1, 1) := dk_27 (dk_at dksX0_gap_0 5 rfl rfl)
theorem dX0_gap_6 : decode cX0_gap 6 = .ok (.invokevirtual 252, 3) := dk_182 0 252 (dk_at dksX0_gap_0 6 rfl rfl)
theorem dX0_gap_9 : decode cX0_gap 9 = .ok (.astore_n 3, 1) := dk_78 (dk_at dksX0_gap_0 9 rfl rfl)
theorem dX0_gap_10 : decode cX0_gap 10 = .ok (.aload_n 0, 1) := dk_42 (dk_at dksX0_gap_0 10 rfl rfl)
theorem dX0_gap_11 : decode cX0_gap 11 = .ok (.getfield 59, 3) := dk_180 0 59 (dk_at dksX0_gap_0 11 rfl rfl)
theorem dX0_gap_14 : decode cX0_gap 14 = .ok (.getfield 85, 3) := dk_180 0 85 (dk_at dksX0_gap_0 14 rfl rfl)
theorem dX0_gap_17 : decode cX0_gap 17 = .ok (.iload_n 2, 1) := dk_28 (dk_at dksX0_gap_0 17 rfl rfl)
theorem dX0_gap_18 : decode cX0_gap 18 = .ok (.invokestatic 278, 3) := dk_184 1 22 (dk_at dksX0_gap_0 18 rfl rfl)
theorem dX0_gap_21 : decode cX0_gap 21 = .ok (.aload_n 0, 1) := dk_42 (dk_at dksX0_gap_0 21 rfl rfl)
theorem dX0_gap_22 : decode cX0_gap 22 = .ok (.aload_n 3, 1) := dk_45 (dk_at dksX0_gap_0 22 rfl rfl)
theorem dX0_gap_23 : decode cX0_gap 23 = .ok (.iload_n 2, 1) := dk_28 (dk_at dksX0_gap_0 23 rfl rfl)
theorem dX0_gap_24 : decode cX0_gap 24 = .ok (.invokevirtual 274, 3) := dk_182 1 18 (dk_at dksX0_gap_1 0 rfl rfl)
theorem dX0_gap_27 : decode cX0_gap 27 = .ok (.lsub, 1) := dk_101 (dk_at dksX0_gap_1 3 rfl rfl)
theorem dX0_gap_28 : decode cX0_gap 28 = .ok (.lreturn, 1) := dk_173 (dk_at dksX0_gap_1 4 rfl rfl)
theorem dX0_gap_29 : decode cX0_gap 29 = .ok (.astore_n 3, 1) := dk_78 (dk_at dksX0_gap_1 5 rfl rfl)
theorem dX0_gap_30 : decode cX0_gap 30 = .ok (.aload_n 0, 1) := dk_42 (dk_at dksX0_gap_1 6 rfl rfl)
theorem dX0_gap_31 : decode cX0_gap 31 = .ok (.aload_n 3, 1) := dk_45 (dk_at dksX0_gap_1 7 rfl rfl)
theorem dX0_gap_32 : decode cX0_gap 32 = .ok (.getfield 133, 3) := dk_180 0 133 (dk_at dksX0_gap_1 8 rfl rfl)
theorem dX0_gap_35 : decode cX0_gap 35 = .ok (.invokevirtual 268, 3) := dk_182 1 12 (dk_at dksX0_gap_1 11 rfl rfl)
theorem dX0_gap_38 : decode cX0_gap 38 = .ok (.lreturn, 1) := dk_173 (dk_at dksX0_gap_1 14 rfl rfl)
abbrev cX0_head : ByteArray := prog_1_method_45_code
def yX0_head : MethodName := ⟨RX0, "head", "(I)I"⟩
def dkwX0_head_4 : List UInt8 := [160, 0, 12, 42, 16, 251, 182, 0, 79, 167, 0, 4, 28, 172]
abbrev dktX0_head_4 : List UInt8 := dkwX0_head_4 ++ []
def dkwX0_head_3 : List UInt8 := [159, 0, 10, 22, 6, 33, 148, 158, 0, 9, 21, 5, 61, 22, 6, 66, 132, 5, 1, 167, 255, 189, 28, 2]
abbrev dktX0_head_3 : List UInt8 := dkwX0_head_3 ++ dktX0_head_4
def dkwX0_head_2 : List UInt8 := [42, 42, 180, 0, 65, 21, 5, 50, 180, 0, 114, 192, 0, 120, 27, 182, 1, 18, 55, 6, 28, 2]
abbrev dktX0_head_2 : List UInt8 := dkwX0_head_2 ++ dktX0_head_3
def dkwX0_head_1 : List UInt8 := [16, 8, 162, 0, 66, 42, 180, 0, 65, 21, 5, 50, 180, 0, 114, 193, 0, 120, 154, 0, 6, 167, 0, 41]
abbrev dktX0_head_1 : List UInt8 := dkwX0_head_1 ++ dktX0_head_2
def dkwX0_head_0 : List UInt8 := [27, 184, 1, 15, 154, 0, 10, 42, 16, 254, 182, 0, 79, 172, 2, 61, 9, 66, 3, 54, 5, 21, 5]
abbrev dktX0_head_0 : List UInt8 := dkwX0_head_0 ++ dktX0_head_1
theorem dksX0_head_0 : cX0_head.data.toList.drop 0 = dktX0_head_0 := by decide +kernel
theorem dksX0_head_1 : cX0_head.data.toList.drop 23 = dktX0_head_1 := dk_seg dksX0_head_0 23 rfl rfl
theorem dksX0_head_2 : cX0_head.data.toList.drop 47 = dktX0_head_2 := dk_seg dksX0_head_1 24 rfl rfl
theorem dksX0_head_3 : cX0_head.data.toList.drop 69 = dktX0_head_3 := dk_seg dksX0_head_2 22 rfl rfl
theorem dksX0_head_4 : cX0_head.data.toList.drop 93 = dktX0_head_4 := dk_seg dksX0_head_3 24 rfl rfl
theorem dX0_head_0 : decode cX0_head 0 = .ok (.iload_n 1, 1) := dk_27 (dk_at dksX0_head_0 0 rfl rfl)
theorem dX0_head_1 : decode cX0_head 1 = .ok (.invokestatic 271, 3) := dk_184 1 15 (dk_at dksX0_head_0 1 rfl rfl)
theorem dX0_head_4 : decode cX0_head 4 = .ok (.ifCond .ne 10, 3) := dk_154 0 10 (dk_at dksX0_head_0 4 rfl rfl)
theorem dX0_head_7 : decode cX0_head 7 = .ok (.aload_n 0, 1) := dk_42 (dk_at dksX0_head_0 7 rfl rfl)
theorem dX0_head_8 : decode cX0_head 8 = .ok (.bipush (-2), 2) := dk_16 254 (dk_at dksX0_head_0 8 rfl rfl)
theorem dX0_head_10 : decode cX0_head 10 = .ok (.invokevirtual 79, 3) := dk_182 0 79 (dk_at dksX0_head_0 10 rfl rfl)
theorem dX0_head_13 : decode cX0_head 13 = .ok (.ireturn, 1) := dk_172 (dk_at dksX0_head_0 13 rfl rfl)
theorem dX0_head_14 : decode cX0_head 14 = .ok (.iconst (-1), 1) := dk_2 (dk_at dksX0_head_0 14 rfl rfl)
theorem dX0_head_15 : decode cX0_head 15 = .ok (.istore_n 2, 1) := dk_61 (dk_at dksX0_head_0 15 rfl rfl)
theorem dX0_head_16 : decode cX0_head 16 = .ok (.lconst 0, 1) := dk_9 (dk_at dksX0_head_0 16 rfl rfl)
theorem dX0_head_17 : decode cX0_head 17 = .ok (.lstore_n 3, 1) := dk_66 (dk_at dksX0_head_0 17 rfl rfl)
theorem dX0_head_18 : decode cX0_head 18 = .ok (.iconst 0, 1) := dk_3 (dk_at dksX0_head_0 18 rfl rfl)
theorem dX0_head_19 : decode cX0_head 19 = .ok (.istore 5, 2) := dk_54 5 (dk_at dksX0_head_0 19 rfl rfl)
theorem dX0_head_21 : decode cX0_head 21 = .ok (.iload 5, 2) := dk_21 5 (dk_at dksX0_head_0 21 rfl rfl)
theorem dX0_head_23 : decode cX0_head 23 = .ok (.bipush 8, 2) := dk_16 8 (dk_at dksX0_head_1 0 rfl rfl)
theorem dX0_head_25 : decode cX0_head 25 = .ok (.if_icmp .ge 66, 3) := dk_162 0 66 (dk_at dksX0_head_1 2 rfl rfl)
theorem dX0_head_28 : decode cX0_head 28 = .ok (.aload_n 0, 1) := dk_42 (dk_at dksX0_head_1 5 rfl rfl)
theorem dX0_head_29 : decode cX0_head 29 = .ok (.getfield 65, 3) := dk_180 0 65 (dk_at dksX0_head_1 6 rfl rfl)
theorem dX0_head_32 : decode cX0_head 32 = .ok (.iload 5, 2) := dk_21 5 (dk_at dksX0_head_1 9 rfl rfl)
theorem dX0_head_34 : decode cX0_head 34 = .ok (.aaload, 1) := dk_50 (dk_at dksX0_head_1 11 rfl rfl)
theorem dX0_head_35 : decode cX0_head 35 = .ok (.getfield 114, 3) := dk_180 0 114 (dk_at dksX0_head_1 12 rfl rfl)
theorem dX0_head_38 : decode cX0_head 38 = .ok (.instanceof 120, 3) := dk_193 0 120 (dk_at dksX0_head_1 15 rfl rfl)
theorem dX0_head_41 : decode cX0_head 41 = .ok (.ifCond .ne 6, 3) := dk_154 0 6 (dk_at dksX0_head_1 18 rfl rfl)
theorem dX0_head_44 : decode cX0_head 44 = .ok (.goto 41, 3) := dk_167 0 41 (dk_at dksX0_head_1 21 rfl rfl)
theorem dX0_head_47 : decode cX0_head 47 = .ok (.aload_n 0, 1) := dk_42 (dk_at dksX0_head_2 0 rfl rfl)
theorem dX0_head_48 : decode cX0_head 48 = .ok (.aload_n 0, 1) := dk_42 (dk_at dksX0_head_2 1 rfl rfl)
theorem dX0_head_49 : decode cX0_head 49 = .ok (.getfield 65, 3) := dk_180 0 65 (dk_at dksX0_head_2 2 rfl rfl)
theorem dX0_head_52 : decode cX0_head 52 = .ok (.iload 5, 2) := dk_21 5 (dk_at dksX0_head_2 5 rfl rfl)
theorem dX0_head_54 : decode cX0_head 54 = .ok (.aaload, 1) := dk_50 (dk_at dksX0_head_2 7 rfl rfl)
theorem dX0_head_55 : decode cX0_head 55 = .ok (.getfield 114, 3) := dk_180 0 114 (dk_at dksX0_head_2 8 rfl rfl)
theorem dX0_head_58 : decode cX0_head 58 = .ok (.checkcast 120, 3) := dk_192 0 120 (dk_at dksX0_head_2 11 rfl rfl)
theorem dX0_head_61 : decode cX0_head 61 = .ok (.iload_n 1, 1) := dk_27 (dk_at dksX0_head_2 14 rfl rfl)
theorem dX0_head_62 : decode cX0_head 62 = .ok (.invokevirtual 274, 3) := dk_182 1 18 (dk_at dksX0_head_2 15 rfl rfl)
theorem dX0_head_65 : decode cX0_head 65 = .ok (.lstore 6, 2) := dk_55 6 (dk_at dksX0_head_2 18 rfl rfl)
theorem dX0_head_67 : decode cX0_head 67 = .ok (.iload_n 2, 1) := dk_28 (dk_at dksX0_head_2 20 rfl rfl)
theorem dX0_head_68 : decode cX0_head 68 = .ok (.iconst (-1), 1) := dk_2 (dk_at dksX0_head_2 21 rfl rfl)
theorem dX0_head_69 : decode cX0_head 69 = .ok (.if_icmp .eq 10, 3) := dk_159 0 10 (dk_at dksX0_head_3 0 rfl rfl)
theorem dX0_head_72 : decode cX0_head 72 = .ok (.lload 6, 2) := dk_22 6 (dk_at dksX0_head_3 3 rfl rfl)
theorem dX0_head_74 : decode cX0_head 74 = .ok (.lload_n 3, 1) := dk_33 (dk_at dksX0_head_3 5 rfl rfl)
theorem dX0_head_75 : decode cX0_head 75 = .ok (.lcmp, 1) := dk_148 (dk_at dksX0_head_3 6 rfl rfl)
theorem dX0_head_76 : decode cX0_head 76 = .ok (.ifCond .le 9, 3) := dk_158 0 9 (dk_at dksX0_head_3 7 rfl rfl)
theorem dX0_head_79 : decode cX0_head 79 = .ok (.iload 5, 2) := dk_21 5 (dk_at dksX0_head_3 10 rfl rfl)
theorem dX0_head_81 : decode cX0_head 81 = .ok (.istore_n 2, 1) := dk_61 (dk_at dksX0_head_3 12 rfl rfl)
theorem dX0_head_82 : decode cX0_head 82 = .ok (.lload 6, 2) := dk_22 6 (dk_at dksX0_head_3 13 rfl rfl)
theorem dX0_head_84 : decode cX0_head 84 = .ok (.lstore_n 3, 1) := dk_66 (dk_at dksX0_head_3 15 rfl rfl)
theorem dX0_head_85 : decode cX0_head 85 = .ok (.iinc 5 1, 3) := dk_132 5 1 (dk_at dksX0_head_3 16 rfl rfl)
theorem dX0_head_88 : decode cX0_head 88 = .ok (.goto (-67), 3) := dk_167 255 189 (dk_at dksX0_head_3 19 rfl rfl)
theorem dX0_head_91 : decode cX0_head 91 = .ok (.iload_n 2, 1) := dk_28 (dk_at dksX0_head_3 22 rfl rfl)
theorem dX0_head_92 : decode cX0_head 92 = .ok (.iconst (-1), 1) := dk_2 (dk_at dksX0_head_3 23 rfl rfl)
theorem dX0_head_93 : decode cX0_head 93 = .ok (.if_icmp .ne 12, 3) := dk_160 0 12 (dk_at dksX0_head_4 0 rfl rfl)
theorem dX0_head_96 : decode cX0_head 96 = .ok (.aload_n 0, 1) := dk_42 (dk_at dksX0_head_4 3 rfl rfl)
theorem dX0_head_97 : decode cX0_head 97 = .ok (.bipush (-5), 2) := dk_16 251 (dk_at dksX0_head_4 4 rfl rfl)
theorem dX0_head_99 : decode cX0_head 99 = .ok (.invokevirtual 79, 3) := dk_182 0 79 (dk_at dksX0_head_4 6 rfl rfl)
theorem dX0_head_102 : decode cX0_head 102 = .ok (.goto 4, 3) := dk_167 0 4 (dk_at dksX0_head_4 9 rfl rfl)
theorem dX0_head_105 : decode cX0_head 105 = .ok (.iload_n 2, 1) := dk_28 (dk_at dksX0_head_4 12 rfl rfl)
theorem dX0_head_106 : decode cX0_head 106 = .ok (.ireturn, 1) := dk_172 (dk_at dksX0_head_4 13 rfl rfl)
abbrev cX0_keep : ByteArray := prog_1_method_46_code
def yX0_keep : MethodName := ⟨RX0, "keep", "(I)I"⟩
def dkwX0_keep_3 : List UInt8 := [132, 5, 1, 167, 255, 218, 28, 172]
abbrev dktX0_keep_3 : List UInt8 := dkwX0_keep_3 ++ []
def dkwX0_keep_2 : List UInt8 := [183, 0, 15, 27, 182, 1, 18, 55, 6, 22, 6, 33, 148, 158, 0, 9, 21, 5, 61, 22, 6, 66]
abbrev dktX0_keep_2 : List UInt8 := dkwX0_keep_2 ++ dktX0_keep_3
def dkwX0_keep_1 : List UInt8 := [183, 0, 15, 27, 182, 1, 18, 66, 4, 54, 5, 21, 5, 7, 163, 0, 38, 42, 187, 0, 13, 89, 21, 5]
abbrev dktX0_keep_1 : List UInt8 := dkwX0_keep_1 ++ dktX0_keep_2
def dkwX0_keep_0 : List UInt8 := [27, 184, 1, 15, 154, 0, 10, 42, 16, 254, 182, 0, 79, 172, 3, 61, 42, 187, 0, 13, 89, 3]
abbrev dktX0_keep_0 : List UInt8 := dkwX0_keep_0 ++ dktX0_keep_1
theorem dksX0_keep_0 : cX0_keep.data.toList.drop 0 = dktX0_keep_0 := by decide +kernel
theorem dksX0_keep_1 : cX0_keep.data.toList.drop 22 = dktX0_keep_1 := dk_seg dksX0_keep_0 22 rfl rfl
theorem dksX0_keep_2 : cX0_keep.data.toList.drop 46 = dktX0_keep_2 := dk_seg dksX0_keep_1 24 rfl rfl
theorem dksX0_keep_3 : cX0_keep.data.toList.drop 68 = dktX0_keep_3 := dk_seg dksX0_keep_2 22 rfl rfl
theorem dX0_keep_0 : decode cX0_keep 0 = .ok (.iload_n 1, 1) := dk_27 (dk_at dksX0_keep_0 0 rfl rfl)
theorem dX0_keep_1 : decode cX0_keep 1 = .ok (.invokestatic 271, 3) := dk_184 1 15 (dk_at dksX0_keep_0 1 rfl rfl)
theorem dX0_keep_4 : decode cX0_keep 4 = .ok (.ifCond .ne 10, 3) := dk_154 0 10 (dk_at dksX0_keep_0 4 rfl rfl)
theorem dX0_keep_7 : decode cX0_keep 7 = .ok (.aload_n 0, 1) := dk_42 (dk_at dksX0_keep_0 7 rfl rfl)
theorem dX0_keep_8 : decode cX0_keep 8 = .ok (.bipush (-2), 2) := dk_16 254 (dk_at dksX0_keep_0 8 rfl rfl)
theorem dX0_keep_10 : decode cX0_keep 10 = .ok (.invokevirtual 79, 3) := dk_182 0 79 (dk_at dksX0_keep_0 10 rfl rfl)
theorem dX0_keep_13 : decode cX0_keep 13 = .ok (.ireturn, 1) := dk_172 (dk_at dksX0_keep_0 13 rfl rfl)
theorem dX0_keep_14 : decode cX0_keep 14 = .ok (.iconst 0, 1) := dk_3 (dk_at dksX0_keep_0 14 rfl rfl)
theorem dX0_keep_15 : decode cX0_keep 15 = .ok (.istore_n 2, 1) := dk_61 (dk_at dksX0_keep_0 15 rfl rfl)
theorem dX0_keep_16 : decode cX0_keep 16 = .ok (.aload_n 0, 1) := dk_42 (dk_at dksX0_keep_0 16 rfl rfl)
theorem dX0_keep_17 : decode cX0_keep 17 = .ok (.new 13, 3) := dk_187 0 13 (dk_at dksX0_keep_0 17 rfl rfl)
theorem dX0_keep_20 : decode cX0_keep 20 = .ok (.dup, 1) := dk_89 (dk_at dksX0_keep_0 20 rfl rfl)
theorem dX0_keep_21 : decode cX0_keep 21 = .ok (.iconst 0, 1) := dk_3 (dk_at dksX0_keep_0 21 rfl rfl)
theorem dX0_keep_22 : decode cX0_keep 22 = .ok (.invokespecial 15, 3) := dk_183 0 15 (dk_at dksX0_keep_1 0 rfl rfl)
theorem dX0_keep_25 : decode cX0_keep 25 = .ok (.iload_n 1, 1) := dk_27 (dk_at dksX0_keep_1 3 rfl rfl)
theorem dX0_keep_26 : decode cX0_keep 26 = .ok (.invokevirtual 274, 3) := dk_182 1 18 (dk_at dksX0_keep_1 4 rfl rfl)
theorem dX0_keep_29 : decode cX0_keep 29 = .ok (.lstore_n 3, 1) := dk_66 (dk_at dksX0_keep_1 7 rfl rfl)
theorem dX0_keep_30 : decode cX0_keep 30 = .ok (.iconst 1, 1) := dk_4 (dk_at dksX0_keep_1 8 rfl rfl)
theorem dX0_keep_31 : decode cX0_keep 31 = .ok (.istore 5, 2) := dk_54 5 (dk_at dksX0_keep_1 9 rfl rfl)
theorem dX0_keep_33 : decode cX0_keep 33 = .ok (.iload 5, 2) := dk_21 5 (dk_at dksX0_keep_1 11 rfl rfl)
theorem dX0_keep_35 : decode cX0_keep 35 = .ok (.iconst 4, 1) := dk_7 (dk_at dksX0_keep_1 13 rfl rfl)
theorem dX0_keep_36 : decode cX0_keep 36 = .ok (.if_icmp .gt 38, 3) := dk_163 0 38 (dk_at dksX0_keep_1 14 rfl rfl)
theorem dX0_keep_39 : decode cX0_keep 39 = .ok (.aload_n 0, 1) := dk_42 (dk_at dksX0_keep_1 17 rfl rfl)
theorem dX0_keep_40 : decode cX0_keep 40 = .ok (.new 13, 3) := dk_187 0 13 (dk_at dksX0_keep_1 18 rfl rfl)
theorem dX0_keep_43 : decode cX0_keep 43 = .ok (.dup, 1) := dk_89 (dk_at dksX0_keep_1 21 rfl rfl)
theorem dX0_keep_44 : decode cX0_keep 44 = .ok (.iload 5, 2) := dk_21 5 (dk_at dksX0_keep_1 22 rfl rfl)
theorem dX0_keep_46 : decode cX0_keep 46 = .ok (.invokespecial 15, 3) := dk_183 0 15 (dk_at dksX0_keep_2 0 rfl rfl)
theorem dX0_keep_49 : decode cX0_keep 49 = .ok (.iload_n 1, 1) := dk_27 (dk_at dksX0_keep_2 3 rfl rfl)
theorem dX0_keep_50 : decode cX0_keep 50 = .ok (.invokevirtual 274, 3) := dk_182 1 18 (dk_at dksX0_keep_2 4 rfl rfl)
theorem dX0_keep_53 : decode cX0_keep 53 = .ok (.lstore 6, 2) := dk_55 6 (dk_at dksX0_keep_2 7 rfl rfl)
theorem dX0_keep_55 : decode cX0_keep 55 = .ok (.lload 6, 2) := dk_22 6 (dk_at dksX0_keep_2 9 rfl rfl)
theorem dX0_keep_57 : decode cX0_keep 57 = .ok (.lload_n 3, 1) := dk_33 (dk_at dksX0_keep_2 11 rfl rfl)
theorem dX0_keep_58 : decode cX0_keep 58 = .ok (.lcmp, 1) := dk_148 (dk_at dksX0_keep_2 12 rfl rfl)
theorem dX0_keep_59 : decode cX0_keep 59 = .ok (.ifCond .le 9, 3) := dk_158 0 9 (dk_at dksX0_keep_2 13 rfl rfl)
theorem dX0_keep_62 : decode cX0_keep 62 = .ok (.iload 5, 2) := dk_21 5 (dk_at dksX0_keep_2 16 rfl rfl)
theorem dX0_keep_64 : decode cX0_keep 64 = .ok (.istore_n 2, 1) := dk_61 (dk_at dksX0_keep_2 18 rfl rfl)
theorem dX0_keep_65 : decode cX0_keep 65 = .ok (.lload 6, 2) := dk_22 6 (dk_at dksX0_keep_2 19 rfl rfl)
theorem dX0_keep_67 : decode cX0_keep 67 = .ok (.lstore_n 3, 1) := dk_66 (dk_at dksX0_keep_2 21 rfl rfl)
theorem dX0_keep_68 : decode cX0_keep 68 = .ok (.iinc 5 1, 3) := dk_132 5 1 (dk_at dksX0_keep_3 0 rfl rfl)
theorem dX0_keep_71 : decode cX0_keep 71 = .ok (.goto (-38), 3) := dk_167 255 218 (dk_at dksX0_keep_3 3 rfl rfl)
theorem dX0_keep_74 : decode cX0_keep 74 = .ok (.iload_n 2, 1) := dk_28 (dk_at dksX0_keep_3 6 rfl rfl)
theorem dX0_keep_75 : decode cX0_keep 75 = .ok (.ireturn, 1) := dk_172 (dk_at dksX0_keep_3 7 rfl rfl)
abbrev cX0_cart : ByteArray := prog_1_method_48_code
def yX0_cart : MethodName := ⟨RX0, "cart", "(IIII)J"⟩
def dkwX0_cart_4 : List UInt8 := [180, 0, 133, 182, 1, 12, 173]
abbrev dktX0_cart_4 : List UInt8 := dkwX0_cart_4 ++ []
def dkwX0_cart_3 : List UInt8 := [25, 5, 180, 1, 39, 167, 0, 12, 25, 5, 180, 1, 43, 21, 4, 46, 133, 173, 58, 5, 42, 25, 5]
abbrev dktX0_cart_3 : List UInt8 := dkwX0_cart_3 ++ dktX0_cart_4
def dkwX0_cart_2 : List UInt8 := [180, 0, 59, 180, 0, 85, 42, 27, 28, 182, 1, 32, 29, 183, 1, 36, 58, 5, 21, 4, 2, 160, 0, 11]
abbrev dktX0_cart_2 : List UInt8 := dkwX0_cart_2 ++ dktX0_cart_3
def dkwX0_cart_1 : List UInt8 := [21, 4, 2, 28, 4, 100, 184, 0, 82, 154, 0, 10, 42, 16, 254, 182, 1, 12, 173, 187, 1, 30, 89, 42]
abbrev dktX0_cart_1 : List UInt8 := dkwX0_cart_1 ++ dktX0_cart_2
def dkwX0_cart_0 : List UInt8 := [27, 184, 0, 106, 153, 0, 32, 28, 3, 16, 6, 184, 0, 82, 153, 0, 22, 29, 184, 1, 15, 153, 0, 15]
abbrev dktX0_cart_0 : List UInt8 := dkwX0_cart_0 ++ dktX0_cart_1
theorem dksX0_cart_0 : cX0_cart.data.toList.drop 0 = dktX0_cart_0 := by decide +kernel
theorem dksX0_cart_1 : cX0_cart.data.toList.drop 24 = dktX0_cart_1 := dk_seg dksX0_cart_0 24 rfl rfl
theorem dksX0_cart_2 : cX0_cart.data.toList.drop 48 = dktX0_cart_2 := dk_seg dksX0_cart_1 24 rfl rfl
theorem dksX0_cart_3 : cX0_cart.data.toList.drop 72 = dktX0_cart_3 := dk_seg dksX0_cart_2 24 rfl rfl
theorem dksX0_cart_4 : cX0_cart.data.toList.drop 95 = dktX0_cart_4 := dk_seg dksX0_cart_3 23 rfl rfl
theorem dX0_cart_0 : decode cX0_cart 0 = .ok (.iload_n 1, 1) := dk_27 (dk_at dksX0_cart_0 0 rfl rfl)
theorem dX0_cart_1 : decode cX0_cart 1 = .ok (.invokestatic 106, 3) := dk_184 0 106 (dk_at dksX0_cart_0 1 rfl rfl)
theorem dX0_cart_4 : decode cX0_cart 4 = .ok (.ifCond .eq 32, 3) := dk_153 0 32 (dk_at dksX0_cart_0 4 rfl rfl)
theorem dX0_cart_7 : decode cX0_cart 7 = .ok (.iload_n 2, 1) := dk_28 (dk_at dksX0_cart_0 7 rfl rfl)
theorem dX0_cart_8 : decode cX0_cart 8 = .ok (.iconst 0, 1) := dk_3 (dk_at dksX0_cart_0 8 rfl rfl)
theorem dX0_cart_9 : decode cX0_cart 9 = .ok (.bipush 6, 2) := dk_16 6 (dk_at dksX0_cart_0 9 rfl rfl)
theorem dX0_cart_11 : decode cX0_cart 11 = .ok (.invokestatic 82, 3) := dk_184 0 82 (dk_at dksX0_cart_0 11 rfl rfl)
theorem dX0_cart_14 : decode cX0_cart 14 = .ok (.ifCond .eq 22, 3) := dk_153 0 22 (dk_at dksX0_cart_0 14 rfl rfl)
theorem dX0_cart_17 : decode cX0_cart 17 = .ok (.iload_n 3, 1) := dk_29 (dk_at dksX0_cart_0 17 rfl rfl)
theorem dX0_cart_18 : decode cX0_cart 18 = .ok (.invokestatic 271, 3) := dk_184 1 15 (dk_at dksX0_cart_0 18 rfl rfl)
theorem dX0_cart_21 : decode cX0_cart 21 = .ok (.ifCond .eq 15, 3) := dk_153 0 15 (dk_at dksX0_cart_0 21 rfl rfl)
theorem dX0_cart_24 : decode cX0_cart 24 = .ok (.iload 4, 2) := dk_21 4 (dk_at dksX0_cart_1 0 rfl rfl)
theorem dX0_cart_26 : decode cX0_cart 26 = .ok (.iconst (-1), 1) := dk_2 (dk_at dksX0_cart_1 2 rfl rfl)
theorem dX0_cart_27 : decode cX0_cart 27 = .ok (.iload_n 2, 1) := dk_28 (dk_at dksX0_cart_1 3 rfl rfl)
theorem dX0_cart_28 : decode cX0_cart 28 = .ok (.iconst 1, 1) := dk_4 (dk_at dksX0_cart_1 4 rfl rfl)
theorem dX0_cart_29 : decode cX0_cart 29 = .ok (.isub, 1) := dk_100 (dk_at dksX0_cart_1 5 rfl rfl)
theorem dX0_cart_30 : decode cX0_cart 30 = .ok (.invokestatic 82, 3) := dk_184 0 82 (dk_at dksX0_cart_1 6 rfl rfl)
theorem dX0_cart_33 : decode cX0_cart 33 = .ok (.ifCond .ne 10, 3) := dk_154 0 10 (dk_at dksX0_cart_1 9 rfl rfl)
theorem dX0_cart_36 : decode cX0_cart 36 = .ok (.aload_n 0, 1) := dk_42 (dk_at dksX0_cart_1 12 rfl rfl)
theorem dX0_cart_37 : decode cX0_cart 37 = .ok (.bipush (-2), 2) := dk_16 254 (dk_at dksX0_cart_1 13 rfl rfl)
theorem dX0_cart_39 : decode cX0_cart 39 = .ok (.invokevirtual 268, 3) := dk_182 1 12 (dk_at dksX0_cart_1 15 rfl rfl)
theorem dX0_cart_42 : decode cX0_cart 42 = .ok (.lreturn, 1) := dk_173 (dk_at dksX0_cart_1 18 rfl rfl)
theorem dX0_cart_43 : decode cX0_cart 43 = .ok (.new 286, 3) := dk_187 1 30 (dk_at dksX0_cart_1 19 rfl rfl)
theorem dX0_cart_46 : decode cX0_cart 46 = .ok (.dup, 1) := dk_89 (dk_at dksX0_cart_1 22 rfl rfl)
theorem dX0_cart_47 : decode cX0_cart 47 = .ok (.aload_n 0, 1) := dk_42 (dk_at dksX0_cart_1 23 rfl rfl)
theorem dX0_cart_48 : decode cX0_cart 48 = .ok (.getfield 59, 3) := dk_180 0 59 (dk_at dksX0_cart_2 0 rfl rfl)
theorem dX0_cart_51 : decode cX0_cart 51 = .ok (.getfield 85, 3) := dk_180 0 85 (dk_at dksX0_cart_2 3 rfl rfl)
theorem dX0_cart_54 : decode cX0_cart 54 = .ok (.aload_n 0, 1) := dk_42 (dk_at dksX0_cart_2 6 rfl rfl)
theorem dX0_cart_55 : decode cX0_cart 55 = .ok (.iload_n 1, 1) := dk_27 (dk_at dksX0_cart_2 7 rfl rfl)
theorem dX0_cart_56 : decode cX0_cart 56 = .ok (.iload_n 2, 1) := dk_28 (dk_at dksX0_cart_2 8 rfl rfl)
theorem dX0_cart_57 : decode cX0_cart 57 = .ok (.invokevirtual 288, 3) := dk_182 1 32 (dk_at dksX0_cart_2 9 rfl rfl)
theorem dX0_cart_60 : decode cX0_cart 60 = .ok (.iload_n 3, 1) := dk_29 (dk_at dksX0_cart_2 12 rfl rfl)
theorem dX0_cart_61 : decode cX0_cart 61 = .ok (.invokespecial 292, 3) := dk_183 1 36 (dk_at dksX0_cart_2 13 rfl rfl)
theorem dX0_cart_64 : decode cX0_cart 64 = .ok (.astore 5, 2) := dk_58 5 (dk_at dksX0_cart_2 16 rfl rfl)
theorem dX0_cart_66 : decode cX0_cart 66 = .ok (.iload 4, 2) := dk_21 4 (dk_at dksX0_cart_2 18 rfl rfl)
theorem dX0_cart_68 : decode cX0_cart 68 = .ok (.iconst (-1), 1) := dk_2 (dk_at dksX0_cart_2 20 rfl rfl)
theorem dX0_cart_69 : decode cX0_cart 69 = .ok (.if_icmp .ne 11, 3) := dk_160 0 11 (dk_at dksX0_cart_2 21 rfl rfl)
theorem dX0_cart_72 : decode cX0_cart 72 = .ok (.aload 5, 2) := dk_25 5 (dk_at dksX0_cart_3 0 rfl rfl)
theorem dX0_cart_74 : decode cX0_cart 74 = .ok (.getfield 295, 3) := dk_180 1 39 (dk_at dksX0_cart_3 2 rfl rfl)
theorem dX0_cart_77 : decode cX0_cart 77 = .ok (.goto 12, 3) := dk_167 0 12 (dk_at dksX0_cart_3 5 rfl rfl)
theorem dX0_cart_80 : decode cX0_cart 80 = .ok (.aload 5, 2) := dk_25 5 (dk_at dksX0_cart_3 8 rfl rfl)
theorem dX0_cart_82 : decode cX0_cart 82 = .ok (.getfield 299, 3) := dk_180 1 43 (dk_at dksX0_cart_3 10 rfl rfl)
theorem dX0_cart_85 : decode cX0_cart 85 = .ok (.iload 4, 2) := dk_21 4 (dk_at dksX0_cart_3 13 rfl rfl)
theorem dX0_cart_87 : decode cX0_cart 87 = .ok (.iaload, 1) := dk_46 (dk_at dksX0_cart_3 15 rfl rfl)
theorem dX0_cart_88 : decode cX0_cart 88 = .ok (.i2l, 1) := dk_133 (dk_at dksX0_cart_3 16 rfl rfl)
theorem dX0_cart_89 : decode cX0_cart 89 = .ok (.lreturn, 1) := dk_173 (dk_at dksX0_cart_3 17 rfl rfl)
theorem dX0_cart_90 : decode cX0_cart 90 = .ok (.astore 5, 2) := dk_58 5 (dk_at dksX0_cart_3 18 rfl rfl)
theorem dX0_cart_92 : decode cX0_cart 92 = .ok (.aload_n 0, 1) := dk_42 (dk_at dksX0_cart_3 20 rfl rfl)
theorem dX0_cart_93 : decode cX0_cart 93 = .ok (.aload 5, 2) := dk_25 5 (dk_at dksX0_cart_3 21 rfl rfl)
theorem dX0_cart_95 : decode cX0_cart 95 = .ok (.getfield 133, 3) := dk_180 0 133 (dk_at dksX0_cart_4 0 rfl rfl)
theorem dX0_cart_98 : decode cX0_cart 98 = .ok (.invokevirtual 268, 3) := dk_182 1 12 (dk_at dksX0_cart_4 3 rfl rfl)
theorem dX0_cart_101 : decode cX0_cart 101 = .ok (.lreturn, 1) := dk_173 (dk_at dksX0_cart_4 6 rfl rfl)
abbrev cX0_cartful : ByteArray := prog_1_method_47_code
def yX0_cartful : MethodName := ⟨RX0, "cartful", "(II)[I"⟩
def dkwX0_cartful_3 : List UInt8 := [132, 5, 1, 167, 255, 197, 167, 0, 15, 58, 5, 187, 0, 122, 89, 16, 254, 183, 0, 124, 191, 25, 4, 176]
abbrev dktX0_cartful_3 : List UInt8 := dkwX0_cartful_3 ++ []
def dkwX0_cartful_2 : List UInt8 := [133, 148, 155, 0, 13, 187, 0, 122, 89, 16, 254, 183, 0, 124, 191, 25, 4, 21, 5, 22, 6, 136, 79]
abbrev dktX0_cartful_2 : List UInt8 := dkwX0_cartful_2 ++ dktX0_cartful_3
def dkwX0_cartful_1 : List UInt8 := [184, 0, 150, 55, 6, 22, 6, 9, 148, 155, 0, 20, 22, 6, 42, 180, 0, 59, 180, 0, 85, 180, 0, 89]
abbrev dktX0_cartful_1 : List UInt8 := dkwX0_cartful_1 ++ dktX0_cartful_2
def dkwX0_cartful_0 : List UInt8 := [42, 27, 182, 0, 125, 78, 28, 188, 10, 58, 4, 3, 54, 5, 21, 5, 28, 162, 0, 59, 45, 21, 5]
abbrev dktX0_cartful_0 : List UInt8 := dkwX0_cartful_0 ++ dktX0_cartful_1
theorem dksX0_cartful_0 : cX0_cartful.data.toList.drop 0 = dktX0_cartful_0 := by decide +kernel
theorem dksX0_cartful_1 : cX0_cartful.data.toList.drop 23 = dktX0_cartful_1 := dk_seg dksX0_cartful_0 23 rfl rfl
theorem dksX0_cartful_2 : cX0_cartful.data.toList.drop 47 = dktX0_cartful_2 := dk_seg dksX0_cartful_1 24 rfl rfl
theorem dksX0_cartful_3 : cX0_cartful.data.toList.drop 70 = dktX0_cartful_3 := dk_seg dksX0_cartful_2 23 rfl rfl
theorem dX0_cartful_0 : decode cX0_cartful 0 = .ok (.aload_n 0, 1) := dk_42 (dk_at dksX0_cartful_0 0 rfl rfl)
theorem dX0_cartful_1 : decode cX0_cartful 1 = .ok (.iload_n 1, 1) := dk_27 (dk_at dksX0_cartful_0 1 rfl rfl)
theorem dX0_cartful_2 : decode cX0_cartful 2 = .ok (.invokevirtual 125, 3) := dk_182 0 125 (dk_at dksX0_cartful_0 2 rfl rfl)
theorem dX0_cartful_5 : decode cX0_cartful 5 = .ok (.astore_n 3, 1) := dk_78 (dk_at dksX0_cartful_0 5 rfl rfl)
theorem dX0_cartful_6 : decode cX0_cartful 6 = .ok (.iload_n 2, 1) := dk_28 (dk_at dksX0_cartful_0 6 rfl rfl)
theorem dX0_cartful_7 : decode cX0_cartful 7 = .ok (.newarray .int, 2) := dk_188_10 (dk_at dksX0_cartful_0 7 rfl rfl)
theorem dX0_cartful_9 : decode cX0_cartful 9 = .ok (.astore 4, 2) := dk_58 4 (dk_at dksX0_cartful_0 9 rfl rfl)
theorem dX0_cartful_11 : decode cX0_cartful 11 = .ok (.iconst 0, 1) := dk_3 (dk_at dksX0_cartful_0 11 rfl rfl)
theorem dX0_cartful_12 : decode cX0_cartful 12 = .ok (.istore 5, 2) := dk_54 5 (dk_at dksX0_cartful_0 12 rfl rfl)
theorem dX0_cartful_14 : decode cX0_cartful 14 = .ok (.iload 5, 2) := dk_21 5 (dk_at dksX0_cartful_0 14 rfl rfl)
theorem dX0_cartful_16 : decode cX0_cartful 16 = .ok (.iload_n 2, 1) := dk_28 (dk_at dksX0_cartful_0 16 rfl rfl)
theorem dX0_cartful_17 : decode cX0_cartful 17 = .ok (.if_icmp .ge 59, 3) := dk_162 0 59 (dk_at dksX0_cartful_0 17 rfl rfl)
theorem dX0_cartful_20 : decode cX0_cartful 20 = .ok (.aload_n 3, 1) := dk_45 (dk_at dksX0_cartful_0 20 rfl rfl)
theorem dX0_cartful_21 : decode cX0_cartful 21 = .ok (.iload 5, 2) := dk_21 5 (dk_at dksX0_cartful_0 21 rfl rfl)
theorem dX0_cartful_23 : decode cX0_cartful 23 = .ok (.invokestatic 150, 3) := dk_184 0 150 (dk_at dksX0_cartful_1 0 rfl rfl)
theorem dX0_cartful_26 : decode cX0_cartful 26 = .ok (.lstore 6, 2) := dk_55 6 (dk_at dksX0_cartful_1 3 rfl rfl)
theorem dX0_cartful_28 : decode cX0_cartful 28 = .ok (.lload 6, 2) := dk_22 6 (dk_at dksX0_cartful_1 5 rfl rfl)
theorem dX0_cartful_30 : decode cX0_cartful 30 = .ok (.lconst 0, 1) := dk_9 (dk_at dksX0_cartful_1 7 rfl rfl)
theorem dX0_cartful_31 : decode cX0_cartful 31 = .ok (.lcmp, 1) := dk_148 (dk_at dksX0_cartful_1 8 rfl rfl)
theorem dX0_cartful_32 : decode cX0_cartful 32 = .ok (.ifCond .lt 20, 3) := dk_155 0 20 (dk_at dksX0_cartful_1 9 rfl rfl)
theorem dX0_cartful_35 : decode cX0_cartful 35 = .ok (.lload 6, 2) := dk_22 6 (dk_at dksX0_cartful_1 12 rfl rfl)
theorem dX0_cartful_37 : decode cX0_cartful 37 = .ok (.aload_n 0, 1) := dk_42 (dk_at dksX0_cartful_1 14 rfl rfl)
theorem dX0_cartful_38 : decode cX0_cartful 38 = .ok (.getfield 59, 3) := dk_180 0 59 (dk_at dksX0_cartful_1 15 rfl rfl)
theorem dX0_cartful_41 : decode cX0_cartful 41 = .ok (.getfield 85, 3) := dk_180 0 85 (dk_at dksX0_cartful_1 18 rfl rfl)
theorem dX0_cartful_44 : decode cX0_cartful 44 = .ok (.getfield 89, 3) := dk_180 0 89 (dk_at dksX0_cartful_1 21 rfl rfl)
theorem dX0_cartful_47 : decode cX0_cartful 47 = .ok (.i2l, 1) := dk_133 (dk_at dksX0_cartful_2 0 rfl rfl)
theorem dX0_cartful_48 : decode cX0_cartful 48 = .ok (.lcmp, 1) := dk_148 (dk_at dksX0_cartful_2 1 rfl rfl)
theorem dX0_cartful_49 : decode cX0_cartful 49 = .ok (.ifCond .lt 13, 3) := dk_155 0 13 (dk_at dksX0_cartful_2 2 rfl rfl)
theorem dX0_cartful_52 : decode cX0_cartful 52 = .ok (.new 122, 3) := dk_187 0 122 (dk_at dksX0_cartful_2 5 rfl rfl)
theorem dX0_cartful_55 : decode cX0_cartful 55 = .ok (.dup, 1) := dk_89 (dk_at dksX0_cartful_2 8 rfl rfl)
theorem dX0_cartful_56 : decode cX0_cartful 56 = .ok (.bipush (-2), 2) := dk_16 254 (dk_at dksX0_cartful_2 9 rfl rfl)
theorem dX0_cartful_58 : decode cX0_cartful 58 = .ok (.invokespecial 124, 3) := dk_183 0 124 (dk_at dksX0_cartful_2 11 rfl rfl)
theorem dX0_cartful_61 : decode cX0_cartful 61 = .ok (.athrow, 1) := dk_191 (dk_at dksX0_cartful_2 14 rfl rfl)
theorem dX0_cartful_62 : decode cX0_cartful 62 = .ok (.aload 4, 2) := dk_25 4 (dk_at dksX0_cartful_2 15 rfl rfl)
theorem dX0_cartful_64 : decode cX0_cartful 64 = .ok (.iload 5, 2) := dk_21 5 (dk_at dksX0_cartful_2 17 rfl rfl)
theorem dX0_cartful_66 : decode cX0_cartful 66 = .ok (.lload 6, 2) := dk_22 6 (dk_at dksX0_cartful_2 19 rfl rfl)
theorem dX0_cartful_68 : decode cX0_cartful 68 = .ok (.l2i, 1) := dk_136 (dk_at dksX0_cartful_2 21 rfl rfl)
theorem dX0_cartful_69 : decode cX0_cartful 69 = .ok (.iastore, 1) := dk_79 (dk_at dksX0_cartful_2 22 rfl rfl)
theorem dX0_cartful_70 : decode cX0_cartful 70 = .ok (.iinc 5 1, 3) := dk_132 5 1 (dk_at dksX0_cartful_3 0 rfl rfl)
theorem dX0_cartful_73 : decode cX0_cartful 73 = .ok (.goto (-59), 3) := dk_167 255 197 (dk_at dksX0_cartful_3 3 rfl rfl)
theorem dX0_cartful_76 : decode cX0_cartful 76 = .ok (.goto 15, 3) := dk_167 0 15 (dk_at dksX0_cartful_3 6 rfl rfl)
theorem dX0_cartful_79 : decode cX0_cartful 79 = .ok (.astore 5, 2) := dk_58 5 (dk_at dksX0_cartful_3 9 rfl rfl)
theorem dX0_cartful_81 : decode cX0_cartful 81 = .ok (.new 122, 3) := dk_187 0 122 (dk_at dksX0_cartful_3 11 rfl rfl)
theorem dX0_cartful_84 : decode cX0_cartful 84 = .ok (.dup, 1) := dk_89 (dk_at dksX0_cartful_3 14 rfl rfl)
theorem dX0_cartful_85 : decode cX0_cartful 85 = .ok (.bipush (-2), 2) := dk_16 254 (dk_at dksX0_cartful_3 15 rfl rfl)
theorem dX0_cartful_87 : decode cX0_cartful 87 = .ok (.invokespecial 124, 3) := dk_183 0 124 (dk_at dksX0_cartful_3 17 rfl rfl)
theorem dX0_cartful_90 : decode cX0_cartful 90 = .ok (.athrow, 1) := dk_191 (dk_at dksX0_cartful_3 20 rfl rfl)
theorem dX0_cartful_91 : decode cX0_cartful 91 = .ok (.aload 4, 2) := dk_25 4 (dk_at dksX0_cartful_3 21 rfl rfl)
theorem dX0_cartful_93 : decode cX0_cartful 93 = .ok (.areturn, 1) := dk_176 (dk_at dksX0_cartful_3 23 rfl rfl)
abbrev cX0_judge : ByteArray := prog_1_method_52_code
def yX0_judge : MethodName := ⟨RX0, "judge", "(III)I"⟩
def dkwX0_judge_1 : List UInt8 := [58, 4, 42, 25, 4, 180, 0, 133, 182, 0, 79, 172]
abbrev dktX0_judge_1 : List UInt8 := dkwX0_judge_1 ++ []
def dkwX0_judge_0 : List UInt8 := [42, 27, 28, 29, 182, 1, 47, 42, 42, 27, 29, 182, 1, 32, 42, 28, 29, 182, 1, 51, 182, 1, 54, 172]
abbrev dktX0_judge_0 : List UInt8 := dkwX0_judge_0 ++ dktX0_judge_1
theorem dksX0_judge_0 : cX0_judge.data.toList.drop 0 = dktX0_judge_0 := by decide +kernel
theorem dksX0_judge_1 : cX0_judge.data.toList.drop 24 = dktX0_judge_1 := dk_seg dksX0_judge_0 24 rfl rfl
theorem dX0_judge_0 : decode cX0_judge 0 = .ok (.aload_n 0, 1) := dk_42 (dk_at dksX0_judge_0 0 rfl rfl)
theorem dX0_judge_1 : decode cX0_judge 1 = .ok (.iload_n 1, 1) := dk_27 (dk_at dksX0_judge_0 1 rfl rfl)
theorem dX0_judge_2 : decode cX0_judge 2 = .ok (.iload_n 2, 1) := dk_28 (dk_at dksX0_judge_0 2 rfl rfl)
theorem dX0_judge_3 : decode cX0_judge 3 = .ok (.iload_n 3, 1) := dk_29 (dk_at dksX0_judge_0 3 rfl rfl)
theorem dX0_judge_4 : decode cX0_judge 4 = .ok (.invokevirtual 303, 3) := dk_182 1 47 (dk_at dksX0_judge_0 4 rfl rfl)
theorem dX0_judge_7 : decode cX0_judge 7 = .ok (.aload_n 0, 1) := dk_42 (dk_at dksX0_judge_0 7 rfl rfl)
theorem dX0_judge_8 : decode cX0_judge 8 = .ok (.aload_n 0, 1) := dk_42 (dk_at dksX0_judge_0 8 rfl rfl)
theorem dX0_judge_9 : decode cX0_judge 9 = .ok (.iload_n 1, 1) := dk_27 (dk_at dksX0_judge_0 9 rfl rfl)
theorem dX0_judge_10 : decode cX0_judge 10 = .ok (.iload_n 3, 1) := dk_29 (dk_at dksX0_judge_0 10 rfl rfl)
theorem dX0_judge_11 : decode cX0_judge 11 = .ok (.invokevirtual 288, 3) := dk_182 1 32 (dk_at dksX0_judge_0 11 rfl rfl)
theorem dX0_judge_14 : decode cX0_judge 14 = .ok (.aload_n 0, 1) := dk_42 (dk_at dksX0_judge_0 14 rfl rfl)
theorem dX0_judge_15 : decode cX0_judge 15 = .ok (.iload_n 2, 1) := dk_28 (dk_at dksX0_judge_0 15 rfl rfl)
theorem dX0_judge_16 : decode cX0_judge 16 = .ok (.iload_n 3, 1) := dk_29 (dk_at dksX0_judge_0 16 rfl rfl)
theorem dX0_judge_17 : decode cX0_judge 17 = .ok (.invokevirtual 307, 3) := dk_182 1 51 (dk_at dksX0_judge_0 17 rfl rfl)
theorem dX0_judge_20 : decode cX0_judge 20 = .ok (.invokevirtual 310, 3) := dk_182 1 54 (dk_at dksX0_judge_0 20 rfl rfl)
theorem dX0_judge_23 : decode cX0_judge 23 = .ok (.ireturn, 1) := dk_172 (dk_at dksX0_judge_0 23 rfl rfl)
theorem dX0_judge_24 : decode cX0_judge 24 = .ok (.astore 4, 2) := dk_58 4 (dk_at dksX0_judge_1 0 rfl rfl)
theorem dX0_judge_26 : decode cX0_judge 26 = .ok (.aload_n 0, 1) := dk_42 (dk_at dksX0_judge_1 2 rfl rfl)
theorem dX0_judge_27 : decode cX0_judge 27 = .ok (.aload 4, 2) := dk_25 4 (dk_at dksX0_judge_1 3 rfl rfl)
theorem dX0_judge_29 : decode cX0_judge 29 = .ok (.getfield 133, 3) := dk_180 0 133 (dk_at dksX0_judge_1 5 rfl rfl)
theorem dX0_judge_32 : decode cX0_judge 32 = .ok (.invokevirtual 79, 3) := dk_182 0 79 (dk_at dksX0_judge_1 8 rfl rfl)
theorem dX0_judge_35 : decode cX0_judge 35 = .ok (.ireturn, 1) := dk_172 (dk_at dksX0_judge_1 11 rfl rfl)
abbrev cX0_rows : ByteArray := prog_1_method_50_code
def yX0_rows : MethodName := ⟨RX0, "rows", "(III)V"⟩
def dkwX0_rows_4 : List UInt8 := [187, 0, 122, 89, 16, 252, 183, 0, 124, 191, 177]
abbrev dktX0_rows_4 : List UInt8 := dkwX0_rows_4 ++ []
def dkwX0_rows_3 : List UInt8 := [153, 0, 13, 187, 0, 122, 89, 16, 253, 183, 0, 124, 191, 25, 4, 198, 0, 8, 25, 5, 199, 0, 13]
abbrev dktX0_rows_3 : List UInt8 := dkwX0_rows_3 ++ dktX0_rows_4
def dkwX0_rows_2 : List UInt8 := [180, 0, 65, 28, 50, 180, 0, 114, 58, 5, 25, 4, 193, 0, 120, 154, 0, 11, 25, 5, 193, 0, 120]
abbrev dktX0_rows_2 : List UInt8 := dkwX0_rows_2 ++ dktX0_rows_3
def dkwX0_rows_1 : List UInt8 := [187, 0, 122, 89, 16, 254, 183, 0, 124, 191, 42, 180, 0, 65, 27, 50, 180, 0, 114, 58, 4, 42]
abbrev dktX0_rows_1 : List UInt8 := dkwX0_rows_1 ++ dktX0_rows_2
def dkwX0_rows_0 : List UInt8 := [27, 184, 0, 106, 153, 0, 20, 28, 184, 0, 106, 153, 0, 13, 29, 3, 16, 6, 184, 0, 82, 154, 0, 13]
abbrev dktX0_rows_0 : List UInt8 := dkwX0_rows_0 ++ dktX0_rows_1
theorem dksX0_rows_0 : cX0_rows.data.toList.drop 0 = dktX0_rows_0 := by decide +kernel
theorem dksX0_rows_1 : cX0_rows.data.toList.drop 24 = dktX0_rows_1 := dk_seg dksX0_rows_0 24 rfl rfl
theorem dksX0_rows_2 : cX0_rows.data.toList.drop 46 = dktX0_rows_2 := dk_seg dksX0_rows_1 22 rfl rfl
theorem dksX0_rows_3 : cX0_rows.data.toList.drop 69 = dktX0_rows_3 := dk_seg dksX0_rows_2 23 rfl rfl
theorem dksX0_rows_4 : cX0_rows.data.toList.drop 92 = dktX0_rows_4 := dk_seg dksX0_rows_3 23 rfl rfl
theorem dX0_rows_0 : decode cX0_rows 0 = .ok (.iload_n 1, 1) := dk_27 (dk_at dksX0_rows_0 0 rfl rfl)
theorem dX0_rows_1 : decode cX0_rows 1 = .ok (.invokestatic 106, 3) := dk_184 0 106 (dk_at dksX0_rows_0 1 rfl rfl)
theorem dX0_rows_4 : decode cX0_rows 4 = .ok (.ifCond .eq 20, 3) := dk_153 0 20 (dk_at dksX0_rows_0 4 rfl rfl)
theorem dX0_rows_7 : decode cX0_rows 7 = .ok (.iload_n 2, 1) := dk_28 (dk_at dksX0_rows_0 7 rfl rfl)
theorem dX0_rows_8 : decode cX0_rows 8 = .ok (.invokestatic 106, 3) := dk_184 0 106 (dk_at dksX0_rows_0 8 rfl rfl)
theorem dX0_rows_11 : decode cX0_rows 11 = .ok (.ifCond .eq 13, 3) := dk_153 0 13 (dk_at dksX0_rows_0 11 rfl rfl)
theorem dX0_rows_14 : decode cX0_rows 14 = .ok (.iload_n 3, 1) := dk_29 (dk_at dksX0_rows_0 14 rfl rfl)
theorem dX0_rows_15 : decode cX0_rows 15 = .ok (.iconst 0, 1) := dk_3 (dk_at dksX0_rows_0 15 rfl rfl)
theorem dX0_rows_16 : decode cX0_rows 16 = .ok (.bipush 6, 2) := dk_16 6 (dk_at dksX0_rows_0 16 rfl rfl)
theorem dX0_rows_18 : decode cX0_rows 18 = .ok (.invokestatic 82, 3) := dk_184 0 82 (dk_at dksX0_rows_0 18 rfl rfl)
theorem dX0_rows_21 : decode cX0_rows 21 = .ok (.ifCond .ne 13, 3) := dk_154 0 13 (dk_at dksX0_rows_0 21 rfl rfl)
theorem dX0_rows_24 : decode cX0_rows 24 = .ok (.new 122, 3) := dk_187 0 122 (dk_at dksX0_rows_1 0 rfl rfl)
theorem dX0_rows_27 : decode cX0_rows 27 = .ok (.dup, 1) := dk_89 (dk_at dksX0_rows_1 3 rfl rfl)
theorem dX0_rows_28 : decode cX0_rows 28 = .ok (.bipush (-2), 2) := dk_16 254 (dk_at dksX0_rows_1 4 rfl rfl)
theorem dX0_rows_30 : decode cX0_rows 30 = .ok (.invokespecial 124, 3) := dk_183 0 124 (dk_at dksX0_rows_1 6 rfl rfl)
theorem dX0_rows_33 : decode cX0_rows 33 = .ok (.athrow, 1) := dk_191 (dk_at dksX0_rows_1 9 rfl rfl)
theorem dX0_rows_34 : decode cX0_rows 34 = .ok (.aload_n 0, 1) := dk_42 (dk_at dksX0_rows_1 10 rfl rfl)
theorem dX0_rows_35 : decode cX0_rows 35 = .ok (.getfield 65, 3) := dk_180 0 65 (dk_at dksX0_rows_1 11 rfl rfl)
theorem dX0_rows_38 : decode cX0_rows 38 = .ok (.iload_n 1, 1) := dk_27 (dk_at dksX0_rows_1 14 rfl rfl)
theorem dX0_rows_39 : decode cX0_rows 39 = .ok (.aaload, 1) := dk_50 (dk_at dksX0_rows_1 15 rfl rfl)
theorem dX0_rows_40 : decode cX0_rows 40 = .ok (.getfield 114, 3) := dk_180 0 114 (dk_at dksX0_rows_1 16 rfl rfl)
theorem dX0_rows_43 : decode cX0_rows 43 = .ok (.astore 4, 2) := dk_58 4 (dk_at dksX0_rows_1 19 rfl rfl)
theorem dX0_rows_45 : decode cX0_rows 45 = .ok (.aload_n 0, 1) := dk_42 (dk_at dksX0_rows_1 21 rfl rfl)
theorem dX0_rows_46 : decode cX0_rows 46 = .ok (.getfield 65, 3) := dk_180 0 65 (dk_at dksX0_rows_2 0 rfl rfl)
theorem dX0_rows_49 : decode cX0_rows 49 = .ok (.iload_n 2, 1) := dk_28 (dk_at dksX0_rows_2 3 rfl rfl)
theorem dX0_rows_50 : decode cX0_rows 50 = .ok (.aaload, 1) := dk_50 (dk_at dksX0_rows_2 4 rfl rfl)
theorem dX0_rows_51 : decode cX0_rows 51 = .ok (.getfield 114, 3) := dk_180 0 114 (dk_at dksX0_rows_2 5 rfl rfl)
theorem dX0_rows_54 : decode cX0_rows 54 = .ok (.astore 5, 2) := dk_58 5 (dk_at dksX0_rows_2 8 rfl rfl)
theorem dX0_rows_56 : decode cX0_rows 56 = .ok (.aload 4, 2) := dk_25 4 (dk_at dksX0_rows_2 10 rfl rfl)
theorem dX0_rows_58 : decode cX0_rows 58 = .ok (.instanceof 120, 3) := dk_193 0 120 (dk_at dksX0_rows_2 12 rfl rfl)
theorem dX0_rows_61 : decode cX0_rows 61 = .ok (.ifCond .ne 11, 3) := dk_154 0 11 (dk_at dksX0_rows_2 15 rfl rfl)
theorem dX0_rows_64 : decode cX0_rows 64 = .ok (.aload 5, 2) := dk_25 5 (dk_at dksX0_rows_2 18 rfl rfl)
theorem dX0_rows_66 : decode cX0_rows 66 = .ok (.instanceof 120, 3) := dk_193 0 120 (dk_at dksX0_rows_2 20 rfl rfl)
theorem dX0_rows_69 : decode cX0_rows 69 = .ok (.ifCond .eq 13, 3) := dk_153 0 13 (dk_at dksX0_rows_3 0 rfl rfl)
theorem dX0_rows_72 : decode cX0_rows 72 = .ok (.new 122, 3) := dk_187 0 122 (dk_at dksX0_rows_3 3 rfl rfl)
theorem dX0_rows_75 : decode cX0_rows 75 = .ok (.dup, 1) := dk_89 (dk_at dksX0_rows_3 6 rfl rfl)
theorem dX0_rows_76 : decode cX0_rows 76 = .ok (.bipush (-3), 2) := dk_16 253 (dk_at dksX0_rows_3 7 rfl rfl)
theorem dX0_rows_78 : decode cX0_rows 78 = .ok (.invokespecial 124, 3) := dk_183 0 124 (dk_at dksX0_rows_3 9 rfl rfl)
theorem dX0_rows_81 : decode cX0_rows 81 = .ok (.athrow, 1) := dk_191 (dk_at dksX0_rows_3 12 rfl rfl)
theorem dX0_rows_82 : decode cX0_rows 82 = .ok (.aload 4, 2) := dk_25 4 (dk_at dksX0_rows_3 13 rfl rfl)
theorem dX0_rows_84 : decode cX0_rows 84 = .ok (.ifnull 8, 3) := dk_198 0 8 (dk_at dksX0_rows_3 15 rfl rfl)
theorem dX0_rows_87 : decode cX0_rows 87 = .ok (.aload 5, 2) := dk_25 5 (dk_at dksX0_rows_3 18 rfl rfl)
theorem dX0_rows_89 : decode cX0_rows 89 = .ok (.ifnonnull 13, 3) := dk_199 0 13 (dk_at dksX0_rows_3 20 rfl rfl)
theorem dX0_rows_92 : decode cX0_rows 92 = .ok (.new 122, 3) := dk_187 0 122 (dk_at dksX0_rows_4 0 rfl rfl)
theorem dX0_rows_95 : decode cX0_rows 95 = .ok (.dup, 1) := dk_89 (dk_at dksX0_rows_4 3 rfl rfl)
theorem dX0_rows_96 : decode cX0_rows 96 = .ok (.bipush (-4), 2) := dk_16 252 (dk_at dksX0_rows_4 4 rfl rfl)
theorem dX0_rows_98 : decode cX0_rows 98 = .ok (.invokespecial 124, 3) := dk_183 0 124 (dk_at dksX0_rows_4 6 rfl rfl)
theorem dX0_rows_101 : decode cX0_rows 101 = .ok (.athrow, 1) := dk_191 (dk_at dksX0_rows_4 9 rfl rfl)
theorem dX0_rows_102 : decode cX0_rows 102 = .ok (.return_, 1) := dk_177 (dk_at dksX0_rows_4 10 rfl rfl)
abbrev cX0_sizes : ByteArray := prog_1_method_49_code
def yX0_sizes : MethodName := ⟨RX0, "sizes", "(II)[I"⟩
def dkwX0_sizes_3 : List UInt8 := [187, 0, 122, 89, 16, 254, 183, 0, 124, 191, 25, 4, 176]
abbrev dktX0_sizes_3 : List UInt8 := dkwX0_sizes_3 ++ []
def dkwX0_sizes_2 : List UInt8 := [156, 0, 9, 22, 6, 136, 167, 0, 4, 2, 79, 132, 5, 1, 167, 255, 211, 167, 0, 15, 58, 5]
abbrev dktX0_sizes_2 : List UInt8 := dkwX0_sizes_2 ++ dktX0_sizes_3
def dkwX0_sizes_1 : List UInt8 := [184, 0, 150, 55, 6, 25, 4, 21, 5, 22, 6, 9, 148, 155, 0, 18, 22, 6, 20, 1, 45, 148]
abbrev dktX0_sizes_1 : List UInt8 := dkwX0_sizes_1 ++ dktX0_sizes_2
def dkwX0_sizes_0 : List UInt8 := [42, 27, 182, 0, 125, 78, 28, 188, 10, 58, 4, 3, 54, 5, 21, 5, 28, 162, 0, 45, 45, 21, 5]
abbrev dktX0_sizes_0 : List UInt8 := dkwX0_sizes_0 ++ dktX0_sizes_1
theorem dksX0_sizes_0 : cX0_sizes.data.toList.drop 0 = dktX0_sizes_0 := by decide +kernel
theorem dksX0_sizes_1 : cX0_sizes.data.toList.drop 23 = dktX0_sizes_1 := dk_seg dksX0_sizes_0 23 rfl rfl
theorem dksX0_sizes_2 : cX0_sizes.data.toList.drop 45 = dktX0_sizes_2 := dk_seg dksX0_sizes_1 22 rfl rfl
theorem dksX0_sizes_3 : cX0_sizes.data.toList.drop 67 = dktX0_sizes_3 := dk_seg dksX0_sizes_2 22 rfl rfl
theorem dX0_sizes_0 : decode cX0_sizes 0 = .ok (.aload_n 0, 1) := dk_42 (dk_at dksX0_sizes_0 0 rfl rfl)
theorem dX0_sizes_1 : decode cX0_sizes 1 = .ok (.iload_n 1, 1) := dk_27 (dk_at dksX0_sizes_0 1 rfl rfl)
theorem dX0_sizes_2 : decode cX0_sizes 2 = .ok (.invokevirtual 125, 3) := dk_182 0 125 (dk_at dksX0_sizes_0 2 rfl rfl)
theorem dX0_sizes_5 : decode cX0_sizes 5 = .ok (.astore_n 3, 1) := dk_78 (dk_at dksX0_sizes_0 5 rfl rfl)
theorem dX0_sizes_6 : decode cX0_sizes 6 = .ok (.iload_n 2, 1) := dk_28 (dk_at dksX0_sizes_0 6 rfl rfl)
theorem dX0_sizes_7 : decode cX0_sizes 7 = .ok (.newarray .int, 2) := dk_188_10 (dk_at dksX0_sizes_0 7 rfl rfl)
theorem dX0_sizes_9 : decode cX0_sizes 9 = .ok (.astore 4, 2) := dk_58 4 (dk_at dksX0_sizes_0 9 rfl rfl)
theorem dX0_sizes_11 : decode cX0_sizes 11 = .ok (.iconst 0, 1) := dk_3 (dk_at dksX0_sizes_0 11 rfl rfl)
theorem dX0_sizes_12 : decode cX0_sizes 12 = .ok (.istore 5, 2) := dk_54 5 (dk_at dksX0_sizes_0 12 rfl rfl)
theorem dX0_sizes_14 : decode cX0_sizes 14 = .ok (.iload 5, 2) := dk_21 5 (dk_at dksX0_sizes_0 14 rfl rfl)
theorem dX0_sizes_16 : decode cX0_sizes 16 = .ok (.iload_n 2, 1) := dk_28 (dk_at dksX0_sizes_0 16 rfl rfl)
theorem dX0_sizes_17 : decode cX0_sizes 17 = .ok (.if_icmp .ge 45, 3) := dk_162 0 45 (dk_at dksX0_sizes_0 17 rfl rfl)
theorem dX0_sizes_20 : decode cX0_sizes 20 = .ok (.aload_n 3, 1) := dk_45 (dk_at dksX0_sizes_0 20 rfl rfl)
theorem dX0_sizes_21 : decode cX0_sizes 21 = .ok (.iload 5, 2) := dk_21 5 (dk_at dksX0_sizes_0 21 rfl rfl)
theorem dX0_sizes_23 : decode cX0_sizes 23 = .ok (.invokestatic 150, 3) := dk_184 0 150 (dk_at dksX0_sizes_1 0 rfl rfl)
theorem dX0_sizes_26 : decode cX0_sizes 26 = .ok (.lstore 6, 2) := dk_55 6 (dk_at dksX0_sizes_1 3 rfl rfl)
theorem dX0_sizes_28 : decode cX0_sizes 28 = .ok (.aload 4, 2) := dk_25 4 (dk_at dksX0_sizes_1 5 rfl rfl)
theorem dX0_sizes_30 : decode cX0_sizes 30 = .ok (.iload 5, 2) := dk_21 5 (dk_at dksX0_sizes_1 7 rfl rfl)
theorem dX0_sizes_32 : decode cX0_sizes 32 = .ok (.lload 6, 2) := dk_22 6 (dk_at dksX0_sizes_1 9 rfl rfl)
theorem dX0_sizes_34 : decode cX0_sizes 34 = .ok (.lconst 0, 1) := dk_9 (dk_at dksX0_sizes_1 11 rfl rfl)
theorem dX0_sizes_35 : decode cX0_sizes 35 = .ok (.lcmp, 1) := dk_148 (dk_at dksX0_sizes_1 12 rfl rfl)
theorem dX0_sizes_36 : decode cX0_sizes 36 = .ok (.ifCond .lt 18, 3) := dk_155 0 18 (dk_at dksX0_sizes_1 13 rfl rfl)
theorem dX0_sizes_39 : decode cX0_sizes 39 = .ok (.lload 6, 2) := dk_22 6 (dk_at dksX0_sizes_1 16 rfl rfl)
theorem dX0_sizes_41 : decode cX0_sizes 41 = .ok (.ldc2_w 301, 3) := dk_20 1 45 (dk_at dksX0_sizes_1 18 rfl rfl)
theorem dX0_sizes_44 : decode cX0_sizes 44 = .ok (.lcmp, 1) := dk_148 (dk_at dksX0_sizes_1 21 rfl rfl)
theorem dX0_sizes_45 : decode cX0_sizes 45 = .ok (.ifCond .ge 9, 3) := dk_156 0 9 (dk_at dksX0_sizes_2 0 rfl rfl)
theorem dX0_sizes_48 : decode cX0_sizes 48 = .ok (.lload 6, 2) := dk_22 6 (dk_at dksX0_sizes_2 3 rfl rfl)
theorem dX0_sizes_50 : decode cX0_sizes 50 = .ok (.l2i, 1) := dk_136 (dk_at dksX0_sizes_2 5 rfl rfl)
theorem dX0_sizes_51 : decode cX0_sizes 51 = .ok (.goto 4, 3) := dk_167 0 4 (dk_at dksX0_sizes_2 6 rfl rfl)
theorem dX0_sizes_54 : decode cX0_sizes 54 = .ok (.iconst (-1), 1) := dk_2 (dk_at dksX0_sizes_2 9 rfl rfl)
theorem dX0_sizes_55 : decode cX0_sizes 55 = .ok (.iastore, 1) := dk_79 (dk_at dksX0_sizes_2 10 rfl rfl)
theorem dX0_sizes_56 : decode cX0_sizes 56 = .ok (.iinc 5 1, 3) := dk_132 5 1 (dk_at dksX0_sizes_2 11 rfl rfl)
theorem dX0_sizes_59 : decode cX0_sizes 59 = .ok (.goto (-45), 3) := dk_167 255 211 (dk_at dksX0_sizes_2 14 rfl rfl)
theorem dX0_sizes_62 : decode cX0_sizes 62 = .ok (.goto 15, 3) := dk_167 0 15 (dk_at dksX0_sizes_2 17 rfl rfl)
theorem dX0_sizes_65 : decode cX0_sizes 65 = .ok (.astore 5, 2) := dk_58 5 (dk_at dksX0_sizes_2 20 rfl rfl)
theorem dX0_sizes_67 : decode cX0_sizes 67 = .ok (.new 122, 3) := dk_187 0 122 (dk_at dksX0_sizes_3 0 rfl rfl)
theorem dX0_sizes_70 : decode cX0_sizes 70 = .ok (.dup, 1) := dk_89 (dk_at dksX0_sizes_3 3 rfl rfl)
theorem dX0_sizes_71 : decode cX0_sizes 71 = .ok (.bipush (-2), 2) := dk_16 254 (dk_at dksX0_sizes_3 4 rfl rfl)
theorem dX0_sizes_73 : decode cX0_sizes 73 = .ok (.invokespecial 124, 3) := dk_183 0 124 (dk_at dksX0_sizes_3 6 rfl rfl)
theorem dX0_sizes_76 : decode cX0_sizes 76 = .ok (.athrow, 1) := dk_191 (dk_at dksX0_sizes_3 9 rfl rfl)
theorem dX0_sizes_77 : decode cX0_sizes 77 = .ok (.aload 4, 2) := dk_25 4 (dk_at dksX0_sizes_3 10 rfl rfl)
theorem dX0_sizes_79 : decode cX0_sizes 79 = .ok (.areturn, 1) := dk_176 (dk_at dksX0_sizes_3 12 rfl rfl)
abbrev cX0_wrongIn : ByteArray := prog_1_method_51_code
def yX0_wrongIn : MethodName := ⟨RX0, "wrongIn", "([I[I)I"⟩
def dkwX0_wrongIn_3 : List UInt8 := [167, 255, 200, 2, 172]
abbrev dktX0_wrongIn_3 : List UInt8 := dkwX0_wrongIn_3 ++ []
def dkwX0_wrongIn_2 : List UInt8 := [182, 0, 28, 154, 0, 6, 21, 4, 172, 29, 44, 21, 4, 46, 184, 0, 1, 100, 62, 132, 4, 1]
abbrev dktX0_wrongIn_2 : List UInt8 := dkwX0_wrongIn_2 ++ dktX0_wrongIn_3
def dkwX0_wrongIn_1 : List UInt8 := [46, 2, 160, 0, 6, 167, 0, 38, 42, 180, 0, 59, 180, 0, 85, 43, 21, 4, 46, 44, 21, 4, 46, 29]
abbrev dktX0_wrongIn_1 : List UInt8 := dkwX0_wrongIn_1 ++ dktX0_wrongIn_2
def dkwX0_wrongIn_0 : List UInt8 := [42, 180, 0, 59, 180, 0, 85, 182, 0, 47, 62, 3, 54, 4, 21, 4, 43, 190, 162, 0, 55, 44, 21, 4]
abbrev dktX0_wrongIn_0 : List UInt8 := dkwX0_wrongIn_0 ++ dktX0_wrongIn_1
theorem dksX0_wrongIn_0 : cX0_wrongIn.data.toList.drop 0 = dktX0_wrongIn_0 := by decide +kernel
theorem dksX0_wrongIn_1 : cX0_wrongIn.data.toList.drop 24 = dktX0_wrongIn_1 := dk_seg dksX0_wrongIn_0 24 rfl rfl
theorem dksX0_wrongIn_2 : cX0_wrongIn.data.toList.drop 48 = dktX0_wrongIn_2 := dk_seg dksX0_wrongIn_1 24 rfl rfl
theorem dksX0_wrongIn_3 : cX0_wrongIn.data.toList.drop 70 = dktX0_wrongIn_3 := dk_seg dksX0_wrongIn_2 22 rfl rfl
theorem dX0_wrongIn_0 : decode cX0_wrongIn 0 = .ok (.aload_n 0, 1) := dk_42 (dk_at dksX0_wrongIn_0 0 rfl rfl)
theorem dX0_wrongIn_1 : decode cX0_wrongIn 1 = .ok (.getfield 59, 3) := dk_180 0 59 (dk_at dksX0_wrongIn_0 1 rfl rfl)
theorem dX0_wrongIn_4 : decode cX0_wrongIn 4 = .ok (.getfield 85, 3) := dk_180 0 85 (dk_at dksX0_wrongIn_0 4 rfl rfl)
theorem dX0_wrongIn_7 : decode cX0_wrongIn 7 = .ok (.invokevirtual 47, 3) := dk_182 0 47 (dk_at dksX0_wrongIn_0 7 rfl rfl)
theorem dX0_wrongIn_10 : decode cX0_wrongIn 10 = .ok (.istore_n 3, 1) := dk_62 (dk_at dksX0_wrongIn_0 10 rfl rfl)
theorem dX0_wrongIn_11 : decode cX0_wrongIn 11 = .ok (.iconst 0, 1) := dk_3 (dk_at dksX0_wrongIn_0 11 rfl rfl)
theorem dX0_wrongIn_12 : decode cX0_wrongIn 12 = .ok (.istore 4, 2) := dk_54 4 (dk_at dksX0_wrongIn_0 12 rfl rfl)
theorem dX0_wrongIn_14 : decode cX0_wrongIn 14 = .ok (.iload 4, 2) := dk_21 4 (dk_at dksX0_wrongIn_0 14 rfl rfl)
theorem dX0_wrongIn_16 : decode cX0_wrongIn 16 = .ok (.aload_n 1, 1) := dk_43 (dk_at dksX0_wrongIn_0 16 rfl rfl)
theorem dX0_wrongIn_17 : decode cX0_wrongIn 17 = .ok (.arraylength, 1) := dk_190 (dk_at dksX0_wrongIn_0 17 rfl rfl)
theorem dX0_wrongIn_18 : decode cX0_wrongIn 18 = .ok (.if_icmp .ge 55, 3) := dk_162 0 55 (dk_at dksX0_wrongIn_0 18 rfl rfl)
theorem dX0_wrongIn_21 : decode cX0_wrongIn 21 = .ok (.aload_n 2, 1) := dk_44 (dk_at dksX0_wrongIn_0 21 rfl rfl)
theorem dX0_wrongIn_22 : decode cX0_wrongIn 22 = .ok (.iload 4, 2) := dk_21 4 (dk_at dksX0_wrongIn_0 22 rfl rfl)
theorem dX0_wrongIn_24 : decode cX0_wrongIn 24 = .ok (.iaload, 1) := dk_46 (dk_at dksX0_wrongIn_1 0 rfl rfl)
theorem dX0_wrongIn_25 : decode cX0_wrongIn 25 = .ok (.iconst (-1), 1) := dk_2 (dk_at dksX0_wrongIn_1 1 rfl rfl)
theorem dX0_wrongIn_26 : decode cX0_wrongIn 26 = .ok (.if_icmp .ne 6, 3) := dk_160 0 6 (dk_at dksX0_wrongIn_1 2 rfl rfl)
theorem dX0_wrongIn_29 : decode cX0_wrongIn 29 = .ok (.goto 38, 3) := dk_167 0 38 (dk_at dksX0_wrongIn_1 5 rfl rfl)
theorem dX0_wrongIn_32 : decode cX0_wrongIn 32 = .ok (.aload_n 0, 1) := dk_42 (dk_at dksX0_wrongIn_1 8 rfl rfl)
theorem dX0_wrongIn_33 : decode cX0_wrongIn 33 = .ok (.getfield 59, 3) := dk_180 0 59 (dk_at dksX0_wrongIn_1 9 rfl rfl)
theorem dX0_wrongIn_36 : decode cX0_wrongIn 36 = .ok (.getfield 85, 3) := dk_180 0 85 (dk_at dksX0_wrongIn_1 12 rfl rfl)
theorem dX0_wrongIn_39 : decode cX0_wrongIn 39 = .ok (.aload_n 1, 1) := dk_43 (dk_at dksX0_wrongIn_1 15 rfl rfl)
theorem dX0_wrongIn_40 : decode cX0_wrongIn 40 = .ok (.iload 4, 2) := dk_21 4 (dk_at dksX0_wrongIn_1 16 rfl rfl)
theorem dX0_wrongIn_42 : decode cX0_wrongIn 42 = .ok (.iaload, 1) := dk_46 (dk_at dksX0_wrongIn_1 18 rfl rfl)
theorem dX0_wrongIn_43 : decode cX0_wrongIn 43 = .ok (.aload_n 2, 1) := dk_44 (dk_at dksX0_wrongIn_1 19 rfl rfl)
theorem dX0_wrongIn_44 : decode cX0_wrongIn 44 = .ok (.iload 4, 2) := dk_21 4 (dk_at dksX0_wrongIn_1 20 rfl rfl)
theorem dX0_wrongIn_46 : decode cX0_wrongIn 46 = .ok (.iaload, 1) := dk_46 (dk_at dksX0_wrongIn_1 22 rfl rfl)
theorem dX0_wrongIn_47 : decode cX0_wrongIn 47 = .ok (.iload_n 3, 1) := dk_29 (dk_at dksX0_wrongIn_1 23 rfl rfl)
theorem dX0_wrongIn_48 : decode cX0_wrongIn 48 = .ok (.invokevirtual 28, 3) := dk_182 0 28 (dk_at dksX0_wrongIn_2 0 rfl rfl)
theorem dX0_wrongIn_51 : decode cX0_wrongIn 51 = .ok (.ifCond .ne 6, 3) := dk_154 0 6 (dk_at dksX0_wrongIn_2 3 rfl rfl)
theorem dX0_wrongIn_54 : decode cX0_wrongIn 54 = .ok (.iload 4, 2) := dk_21 4 (dk_at dksX0_wrongIn_2 6 rfl rfl)
theorem dX0_wrongIn_56 : decode cX0_wrongIn 56 = .ok (.ireturn, 1) := dk_172 (dk_at dksX0_wrongIn_2 8 rfl rfl)
theorem dX0_wrongIn_57 : decode cX0_wrongIn 57 = .ok (.iload_n 3, 1) := dk_29 (dk_at dksX0_wrongIn_2 9 rfl rfl)
theorem dX0_wrongIn_58 : decode cX0_wrongIn 58 = .ok (.aload_n 2, 1) := dk_44 (dk_at dksX0_wrongIn_2 10 rfl rfl)
theorem dX0_wrongIn_59 : decode cX0_wrongIn 59 = .ok (.iload 4, 2) := dk_21 4 (dk_at dksX0_wrongIn_2 11 rfl rfl)
theorem dX0_wrongIn_61 : decode cX0_wrongIn 61 = .ok (.iaload, 1) := dk_46 (dk_at dksX0_wrongIn_2 13 rfl rfl)
theorem dX0_wrongIn_62 : decode cX0_wrongIn 62 = .ok (.invokestatic 1, 3) := dk_184 0 1 (dk_at dksX0_wrongIn_2 14 rfl rfl)
theorem dX0_wrongIn_65 : decode cX0_wrongIn 65 = .ok (.isub, 1) := dk_100 (dk_at dksX0_wrongIn_2 17 rfl rfl)
theorem dX0_wrongIn_66 : decode cX0_wrongIn 66 = .ok (.istore_n 3, 1) := dk_62 (dk_at dksX0_wrongIn_2 18 rfl rfl)
theorem dX0_wrongIn_67 : decode cX0_wrongIn 67 = .ok (.iinc 4 1, 3) := dk_132 4 1 (dk_at dksX0_wrongIn_2 19 rfl rfl)
theorem dX0_wrongIn_70 : decode cX0_wrongIn 70 = .ok (.goto (-56), 3) := dk_167 255 200 (dk_at dksX0_wrongIn_3 0 rfl rfl)
theorem dX0_wrongIn_73 : decode cX0_wrongIn 73 = .ok (.iconst (-1), 1) := dk_2 (dk_at dksX0_wrongIn_3 3 rfl rfl)
theorem dX0_wrongIn_74 : decode cX0_wrongIn 74 = .ok (.ireturn, 1) := dk_172 (dk_at dksX0_wrongIn_3 4 rfl rfl)
abbrev cX0_put : ByteArray := prog_1_method_53_code
def yX0_put : MethodName := ⟨RX0, "put", "(III)I"⟩
def dkwX0_put_4 : List UInt8 := [167, 255, 215, 21, 6, 172, 58, 4, 42, 25, 4, 180, 0, 133, 182, 0, 79, 172]
abbrev dktX0_put_4 : List UInt8 := dkwX0_put_4 ++ []
def dkwX0_put_3 : List UInt8 := [180, 0, 85, 180, 0, 178, 25, 5, 21, 7, 46, 92, 46, 4, 96, 79, 132, 6, 1, 132, 7, 1]
abbrev dktX0_put_3 : List UInt8 := dkwX0_put_3 ++ dktX0_put_4
def dkwX0_put_2 : List UInt8 := [3, 54, 7, 21, 7, 29, 162, 0, 41, 25, 5, 21, 7, 46, 2, 159, 0, 26, 42, 180, 0, 59]
abbrev dktX0_put_2 : List UInt8 := dkwX0_put_2 ++ dktX0_put_3
def dkwX0_put_1 : List UInt8 := [25, 4, 25, 5, 182, 1, 54, 2, 159, 0, 13, 187, 0, 122, 89, 16, 251, 183, 0, 124, 191, 3, 54, 6]
abbrev dktX0_put_1 : List UInt8 := dkwX0_put_1 ++ dktX0_put_2
def dkwX0_put_0 : List UInt8 := [42, 27, 28, 29, 182, 1, 47, 42, 27, 29, 182, 1, 32, 58, 4, 42, 28, 29, 182, 1, 51, 58, 5, 42]
abbrev dktX0_put_0 : List UInt8 := dkwX0_put_0 ++ dktX0_put_1
theorem dksX0_put_0 : cX0_put.data.toList.drop 0 = dktX0_put_0 := by decide +kernel
theorem dksX0_put_1 : cX0_put.data.toList.drop 24 = dktX0_put_1 := dk_seg dksX0_put_0 24 rfl rfl
theorem dksX0_put_2 : cX0_put.data.toList.drop 48 = dktX0_put_2 := dk_seg dksX0_put_1 24 rfl rfl
theorem dksX0_put_3 : cX0_put.data.toList.drop 70 = dktX0_put_3 := dk_seg dksX0_put_2 22 rfl rfl
theorem dksX0_put_4 : cX0_put.data.toList.drop 92 = dktX0_put_4 := dk_seg dksX0_put_3 22 rfl rfl
theorem dX0_put_0 : decode cX0_put 0 = .ok (.aload_n 0, 1) := dk_42 (dk_at dksX0_put_0 0 rfl rfl)
theorem dX0_put_1 : decode cX0_put 1 = .ok (.iload_n 1, 1) := dk_27 (dk_at dksX0_put_0 1 rfl rfl)
theorem dX0_put_2 : decode cX0_put 2 = .ok (.iload_n 2, 1) := dk_28 (dk_at dksX0_put_0 2 rfl rfl)
theorem dX0_put_3 : decode cX0_put 3 = .ok (.iload_n 3, 1) := dk_29 (dk_at dksX0_put_0 3 rfl rfl)
theorem dX0_put_4 : decode cX0_put 4 = .ok (.invokevirtual 303, 3) := dk_182 1 47 (dk_at dksX0_put_0 4 rfl rfl)
theorem dX0_put_7 : decode cX0_put 7 = .ok (.aload_n 0, 1) := dk_42 (dk_at dksX0_put_0 7 rfl rfl)
theorem dX0_put_8 : decode cX0_put 8 = .ok (.iload_n 1, 1) := dk_27 (dk_at dksX0_put_0 8 rfl rfl)
theorem dX0_put_9 : decode cX0_put 9 = .ok (.iload_n 3, 1) := dk_29 (dk_at dksX0_put_0 9 rfl rfl)
theorem dX0_put_10 : decode cX0_put 10 = .ok (.invokevirtual 288, 3) := dk_182 1 32 (dk_at dksX0_put_0 10 rfl rfl)
theorem dX0_put_13 : decode cX0_put 13 = .ok (.astore 4, 2) := dk_58 4 (dk_at dksX0_put_0 13 rfl rfl)
theorem dX0_put_15 : decode cX0_put 15 = .ok (.aload_n 0, 1) := dk_42 (dk_at dksX0_put_0 15 rfl rfl)
theorem dX0_put_16 : decode cX0_put 16 = .ok (.iload_n 2, 1) := dk_28 (dk_at dksX0_put_0 16 rfl rfl)
theorem dX0_put_17 : decode cX0_put 17 = .ok (.iload_n 3, 1) := dk_29 (dk_at dksX0_put_0 17 rfl rfl)
theorem dX0_put_18 : decode cX0_put 18 = .ok (.invokevirtual 307, 3) := dk_182 1 51 (dk_at dksX0_put_0 18 rfl rfl)
theorem dX0_put_21 : decode cX0_put 21 = .ok (.astore 5, 2) := dk_58 5 (dk_at dksX0_put_0 21 rfl rfl)
theorem dX0_put_23 : decode cX0_put 23 = .ok (.aload_n 0, 1) := dk_42 (dk_at dksX0_put_0 23 rfl rfl)
theorem dX0_put_24 : decode cX0_put 24 = .ok (.aload 4, 2) := dk_25 4 (dk_at dksX0_put_1 0 rfl rfl)
theorem dX0_put_26 : decode cX0_put 26 = .ok (.aload 5, 2) := dk_25 5 (dk_at dksX0_put_1 2 rfl rfl)
theorem dX0_put_28 : decode cX0_put 28 = .ok (.invokevirtual 310, 3) := dk_182 1 54 (dk_at dksX0_put_1 4 rfl rfl)
theorem dX0_put_31 : decode cX0_put 31 = .ok (.iconst (-1), 1) := dk_2 (dk_at dksX0_put_1 7 rfl rfl)
theorem dX0_put_32 : decode cX0_put 32 = .ok (.if_icmp .eq 13, 3) := dk_159 0 13 (dk_at dksX0_put_1 8 rfl rfl)
theorem dX0_put_35 : decode cX0_put 35 = .ok (.new 122, 3) := dk_187 0 122 (dk_at dksX0_put_1 11 rfl rfl)
theorem dX0_put_38 : decode cX0_put 38 = .ok (.dup, 1) := dk_89 (dk_at dksX0_put_1 14 rfl rfl)
theorem dX0_put_39 : decode cX0_put 39 = .ok (.bipush (-5), 2) := dk_16 251 (dk_at dksX0_put_1 15 rfl rfl)
theorem dX0_put_41 : decode cX0_put 41 = .ok (.invokespecial 124, 3) := dk_183 0 124 (dk_at dksX0_put_1 17 rfl rfl)
theorem dX0_put_44 : decode cX0_put 44 = .ok (.athrow, 1) := dk_191 (dk_at dksX0_put_1 20 rfl rfl)
theorem dX0_put_45 : decode cX0_put 45 = .ok (.iconst 0, 1) := dk_3 (dk_at dksX0_put_1 21 rfl rfl)
theorem dX0_put_46 : decode cX0_put 46 = .ok (.istore 6, 2) := dk_54 6 (dk_at dksX0_put_1 22 rfl rfl)
theorem dX0_put_48 : decode cX0_put 48 = .ok (.iconst 0, 1) := dk_3 (dk_at dksX0_put_2 0 rfl rfl)
theorem dX0_put_49 : decode cX0_put 49 = .ok (.istore 7, 2) := dk_54 7 (dk_at dksX0_put_2 1 rfl rfl)
theorem dX0_put_51 : decode cX0_put 51 = .ok (.iload 7, 2) := dk_21 7 (dk_at dksX0_put_2 3 rfl rfl)
theorem dX0_put_53 : decode cX0_put 53 = .ok (.iload_n 3, 1) := dk_29 (dk_at dksX0_put_2 5 rfl rfl)
theorem dX0_put_54 : decode cX0_put 54 = .ok (.if_icmp .ge 41, 3) := dk_162 0 41 (dk_at dksX0_put_2 6 rfl rfl)
theorem dX0_put_57 : decode cX0_put 57 = .ok (.aload 5, 2) := dk_25 5 (dk_at dksX0_put_2 9 rfl rfl)
theorem dX0_put_59 : decode cX0_put 59 = .ok (.iload 7, 2) := dk_21 7 (dk_at dksX0_put_2 11 rfl rfl)
theorem dX0_put_61 : decode cX0_put 61 = .ok (.iaload, 1) := dk_46 (dk_at dksX0_put_2 13 rfl rfl)
theorem dX0_put_62 : decode cX0_put 62 = .ok (.iconst (-1), 1) := dk_2 (dk_at dksX0_put_2 14 rfl rfl)
theorem dX0_put_63 : decode cX0_put 63 = .ok (.if_icmp .eq 26, 3) := dk_159 0 26 (dk_at dksX0_put_2 15 rfl rfl)
theorem dX0_put_66 : decode cX0_put 66 = .ok (.aload_n 0, 1) := dk_42 (dk_at dksX0_put_2 18 rfl rfl)
theorem dX0_put_67 : decode cX0_put 67 = .ok (.getfield 59, 3) := dk_180 0 59 (dk_at dksX0_put_2 19 rfl rfl)
theorem dX0_put_70 : decode cX0_put 70 = .ok (.getfield 85, 3) := dk_180 0 85 (dk_at dksX0_put_3 0 rfl rfl)
theorem dX0_put_73 : decode cX0_put 73 = .ok (.getfield 178, 3) := dk_180 0 178 (dk_at dksX0_put_3 3 rfl rfl)
theorem dX0_put_76 : decode cX0_put 76 = .ok (.aload 5, 2) := dk_25 5 (dk_at dksX0_put_3 6 rfl rfl)
theorem dX0_put_78 : decode cX0_put 78 = .ok (.iload 7, 2) := dk_21 7 (dk_at dksX0_put_3 8 rfl rfl)
theorem dX0_put_80 : decode cX0_put 80 = .ok (.iaload, 1) := dk_46 (dk_at dksX0_put_3 10 rfl rfl)
theorem dX0_put_81 : decode cX0_put 81 = .ok (.dup2, 1) := dk_92 (dk_at dksX0_put_3 11 rfl rfl)
theorem dX0_put_82 : decode cX0_put 82 = .ok (.iaload, 1) := dk_46 (dk_at dksX0_put_3 12 rfl rfl)
theorem dX0_put_83 : decode cX0_put 83 = .ok (.iconst 1, 1) := dk_4 (dk_at dksX0_put_3 13 rfl rfl)
theorem dX0_put_84 : decode cX0_put 84 = .ok (.iadd, 1) := dk_96 (dk_at dksX0_put_3 14 rfl rfl)
theorem dX0_put_85 : decode cX0_put 85 = .ok (.iastore, 1) := dk_79 (dk_at dksX0_put_3 15 rfl rfl)
theorem dX0_put_86 : decode cX0_put 86 = .ok (.iinc 6 1, 3) := dk_132 6 1 (dk_at dksX0_put_3 16 rfl rfl)
theorem dX0_put_89 : decode cX0_put 89 = .ok (.iinc 7 1, 3) := dk_132 7 1 (dk_at dksX0_put_3 19 rfl rfl)
theorem dX0_put_92 : decode cX0_put 92 = .ok (.goto (-41), 3) := dk_167 255 215 (dk_at dksX0_put_4 0 rfl rfl)
theorem dX0_put_95 : decode cX0_put 95 = .ok (.iload 6, 2) := dk_21 6 (dk_at dksX0_put_4 3 rfl rfl)
theorem dX0_put_97 : decode cX0_put 97 = .ok (.ireturn, 1) := dk_172 (dk_at dksX0_put_4 5 rfl rfl)
theorem dX0_put_98 : decode cX0_put 98 = .ok (.astore 4, 2) := dk_58 4 (dk_at dksX0_put_4 6 rfl rfl)
theorem dX0_put_100 : decode cX0_put 100 = .ok (.aload_n 0, 1) := dk_42 (dk_at dksX0_put_4 8 rfl rfl)
theorem dX0_put_101 : decode cX0_put 101 = .ok (.aload 4, 2) := dk_25 4 (dk_at dksX0_put_4 9 rfl rfl)
theorem dX0_put_103 : decode cX0_put 103 = .ok (.getfield 133, 3) := dk_180 0 133 (dk_at dksX0_put_4 11 rfl rfl)
theorem dX0_put_106 : decode cX0_put 106 = .ok (.invokevirtual 79, 3) := dk_182 0 79 (dk_at dksX0_put_4 14 rfl rfl)
theorem dX0_put_109 : decode cX0_put 109 = .ok (.ireturn, 1) := dk_172 (dk_at dksX0_put_4 17 rfl rfl)
abbrev cX0_build : ByteArray := prog_1_method_54_code
def yX0_build : MethodName := ⟨RX0, "build", "(III)I"⟩
def dkwX0_build_8 : List UInt8 := [167, 0, 5, 21, 6, 172]
abbrev dktX0_build_8 : List UInt8 := dkwX0_build_8 ++ []
def dkwX0_build_7 : List UInt8 := [54, 5, 21, 10, 54, 6, 22, 11, 55, 7, 132, 9, 1, 167, 255, 147, 29, 154, 0, 8, 21, 5]
abbrev dktX0_build_7 : List UInt8 := dkwX0_build_7 ++ dktX0_build_8
def dkwX0_build_6 : List UInt8 := [25, 4, 28, 184, 1, 22, 55, 11, 21, 5, 2, 159, 0, 11, 22, 11, 22, 7, 148, 158, 0, 15, 21, 9]
abbrev dktX0_build_6 : List UInt8 := dkwX0_build_6 ++ dktX0_build_7
def dkwX0_build_5 : List UInt8 := [162, 0, 24, 25, 4, 180, 0, 181, 21, 11, 21, 9, 21, 11, 184, 1, 64, 79, 132, 11, 1, 167, 255, 232]
abbrev dktX0_build_5 : List UInt8 := dkwX0_build_5 ++ dktX0_build_6
def dkwX0_build_4 : List UInt8 := [184, 1, 64, 104, 96, 54, 10, 21, 10, 27, 164, 0, 6, 167, 0, 67, 3, 54, 11, 21, 11, 6]
abbrev dktX0_build_4 : List UInt8 := dkwX0_build_4 ++ dktX0_build_5
def dkwX0_build_3 : List UInt8 := [162, 0, 108, 21, 9, 3, 184, 1, 64, 5, 21, 9, 4, 184, 1, 64, 104, 96, 7, 21, 9, 5]
abbrev dktX0_build_3 : List UInt8 := dkwX0_build_3 ++ dktX0_build_4
def dkwX0_build_2 : List UInt8 := [180, 0, 178, 3, 184, 1, 58, 2, 54, 5, 3, 54, 6, 9, 55, 7, 3, 54, 9, 21, 9, 16, 125]
abbrev dktX0_build_2 : List UInt8 := dkwX0_build_2 ++ dktX0_build_3
def dkwX0_build_1 : List UInt8 := [154, 0, 10, 42, 16, 254, 182, 0, 79, 172, 42, 180, 0, 59, 180, 0, 85, 182, 0, 230, 58, 4, 25, 4]
abbrev dktX0_build_1 : List UInt8 := dkwX0_build_1 ++ dktX0_build_2
def dkwX0_build_0 : List UInt8 := [27, 3, 16, 30, 184, 0, 82, 153, 0, 19, 28, 184, 1, 15, 153, 0, 12, 29, 3, 4, 184, 0, 82]
abbrev dktX0_build_0 : List UInt8 := dkwX0_build_0 ++ dktX0_build_1
theorem dksX0_build_0 : cX0_build.data.toList.drop 0 = dktX0_build_0 := by decide +kernel
theorem dksX0_build_1 : cX0_build.data.toList.drop 23 = dktX0_build_1 := dk_seg dksX0_build_0 23 rfl rfl
theorem dksX0_build_2 : cX0_build.data.toList.drop 47 = dktX0_build_2 := dk_seg dksX0_build_1 24 rfl rfl
theorem dksX0_build_3 : cX0_build.data.toList.drop 70 = dktX0_build_3 := dk_seg dksX0_build_2 23 rfl rfl
theorem dksX0_build_4 : cX0_build.data.toList.drop 92 = dktX0_build_4 := dk_seg dksX0_build_3 22 rfl rfl
theorem dksX0_build_5 : cX0_build.data.toList.drop 114 = dktX0_build_5 := dk_seg dksX0_build_4 22 rfl rfl
theorem dksX0_build_6 : cX0_build.data.toList.drop 138 = dktX0_build_6 := dk_seg dksX0_build_5 24 rfl rfl
theorem dksX0_build_7 : cX0_build.data.toList.drop 162 = dktX0_build_7 := dk_seg dksX0_build_6 24 rfl rfl
theorem dksX0_build_8 : cX0_build.data.toList.drop 184 = dktX0_build_8 := dk_seg dksX0_build_7 22 rfl rfl
theorem dX0_build_0 : decode cX0_build 0 = .ok (.iload_n 1, 1) := dk_27 (dk_at dksX0_build_0 0 rfl rfl)
theorem dX0_build_1 : decode cX0_build 1 = .ok (.iconst 0, 1) := dk_3 (dk_at dksX0_build_0 1 rfl rfl)
theorem dX0_build_2 : decode cX0_build 2 = .ok (.bipush 30, 2) := dk_16 30 (dk_at dksX0_build_0 2 rfl rfl)
theorem dX0_build_4 : decode cX0_build 4 = .ok (.invokestatic 82, 3) := dk_184 0 82 (dk_at dksX0_build_0 4 rfl rfl)
theorem dX0_build_7 : decode cX0_build 7 = .ok (.ifCond .eq 19, 3) := dk_153 0 19 (dk_at dksX0_build_0 7 rfl rfl)
theorem dX0_build_10 : decode cX0_build 10 = .ok (.iload_n 2, 1) := dk_28 (dk_at dksX0_build_0 10 rfl rfl)
theorem dX0_build_11 : decode cX0_build 11 = .ok (.invokestatic 271, 3) := dk_184 1 15 (dk_at dksX0_build_0 11 rfl rfl)
theorem dX0_build_14 : decode cX0_build 14 = .ok (.ifCond .eq 12, 3) := dk_153 0 12 (dk_at dksX0_build_0 14 rfl rfl)
theorem dX0_build_17 : decode cX0_build 17 = .ok (.iload_n 3, 1) := dk_29 (dk_at dksX0_build_0 17 rfl rfl)
theorem dX0_build_18 : decode cX0_build 18 = .ok (.iconst 0, 1) := dk_3 (dk_at dksX0_build_0 18 rfl rfl)
theorem dX0_build_19 : decode cX0_build 19 = .ok (.iconst 1, 1) := dk_4 (dk_at dksX0_build_0 19 rfl rfl)
theorem dX0_build_20 : decode cX0_build 20 = .ok (.invokestatic 82, 3) := dk_184 0 82 (dk_at dksX0_build_0 20 rfl rfl)
theorem dX0_build_23 : decode cX0_build 23 = .ok (.ifCond .ne 10, 3) := dk_154 0 10 (dk_at dksX0_build_1 0 rfl rfl)
theorem dX0_build_26 : decode cX0_build 26 = .ok (.aload_n 0, 1) := dk_42 (dk_at dksX0_build_1 3 rfl rfl)
theorem dX0_build_27 : decode cX0_build 27 = .ok (.bipush (-2), 2) := dk_16 254 (dk_at dksX0_build_1 4 rfl rfl)
theorem dX0_build_29 : decode cX0_build 29 = .ok (.invokevirtual 79, 3) := dk_182 0 79 (dk_at dksX0_build_1 6 rfl rfl)
theorem dX0_build_32 : decode cX0_build 32 = .ok (.ireturn, 1) := dk_172 (dk_at dksX0_build_1 9 rfl rfl)
theorem dX0_build_33 : decode cX0_build 33 = .ok (.aload_n 0, 1) := dk_42 (dk_at dksX0_build_1 10 rfl rfl)
theorem dX0_build_34 : decode cX0_build 34 = .ok (.getfield 59, 3) := dk_180 0 59 (dk_at dksX0_build_1 11 rfl rfl)
theorem dX0_build_37 : decode cX0_build 37 = .ok (.getfield 85, 3) := dk_180 0 85 (dk_at dksX0_build_1 14 rfl rfl)
theorem dX0_build_40 : decode cX0_build 40 = .ok (.invokevirtual 230, 3) := dk_182 0 230 (dk_at dksX0_build_1 17 rfl rfl)
theorem dX0_build_43 : decode cX0_build 43 = .ok (.astore 4, 2) := dk_58 4 (dk_at dksX0_build_1 20 rfl rfl)
theorem dX0_build_45 : decode cX0_build 45 = .ok (.aload 4, 2) := dk_25 4 (dk_at dksX0_build_1 22 rfl rfl)
theorem dX0_build_47 : decode cX0_build 47 = .ok (.getfield 178, 3) := dk_180 0 178 (dk_at dksX0_build_2 0 rfl rfl)
theorem dX0_build_50 : decode cX0_build 50 = .ok (.iconst 0, 1) := dk_3 (dk_at dksX0_build_2 3 rfl rfl)
theorem dX0_build_51 : decode cX0_build 51 = .ok (.invokestatic 314, 3) := dk_184 1 58 (dk_at dksX0_build_2 4 rfl rfl)
theorem dX0_build_54 : decode cX0_build 54 = .ok (.iconst (-1), 1) := dk_2 (dk_at dksX0_build_2 7 rfl rfl)
theorem dX0_build_55 : decode cX0_build 55 = .ok (.istore 5, 2) := dk_54 5 (dk_at dksX0_build_2 8 rfl rfl)
theorem dX0_build_57 : decode cX0_build 57 = .ok (.iconst 0, 1) := dk_3 (dk_at dksX0_build_2 10 rfl rfl)
theorem dX0_build_58 : decode cX0_build 58 = .ok (.istore 6, 2) := dk_54 6 (dk_at dksX0_build_2 11 rfl rfl)
theorem dX0_build_60 : decode cX0_build 60 = .ok (.lconst 0, 1) := dk_9 (dk_at dksX0_build_2 13 rfl rfl)
theorem dX0_build_61 : decode cX0_build 61 = .ok (.lstore 7, 2) := dk_55 7 (dk_at dksX0_build_2 14 rfl rfl)
theorem dX0_build_63 : decode cX0_build 63 = .ok (.iconst 0, 1) := dk_3 (dk_at dksX0_build_2 16 rfl rfl)
theorem dX0_build_64 : decode cX0_build 64 = .ok (.istore 9, 2) := dk_54 9 (dk_at dksX0_build_2 17 rfl rfl)
theorem dX0_build_66 : decode cX0_build 66 = .ok (.iload 9, 2) := dk_21 9 (dk_at dksX0_build_2 19 rfl rfl)
theorem dX0_build_68 : decode cX0_build 68 = .ok (.bipush 125, 2) := dk_16 125 (dk_at dksX0_build_2 21 rfl rfl)
theorem dX0_build_70 : decode cX0_build 70 = .ok (.if_icmp .ge 108, 3) := dk_162 0 108 (dk_at dksX0_build_3 0 rfl rfl)
theorem dX0_build_73 : decode cX0_build 73 = .ok (.iload 9, 2) := dk_21 9 (dk_at dksX0_build_3 3 rfl rfl)
theorem dX0_build_75 : decode cX0_build 75 = .ok (.iconst 0, 1) := dk_3 (dk_at dksX0_build_3 5 rfl rfl)
theorem dX0_build_76 : decode cX0_build 76 = .ok (.invokestatic 320, 3) := dk_184 1 64 (dk_at dksX0_build_3 6 rfl rfl)
theorem dX0_build_79 : decode cX0_build 79 = .ok (.iconst 2, 1) := dk_5 (dk_at dksX0_build_3 9 rfl rfl)
theorem dX0_build_80 : decode cX0_build 80 = .ok (.iload 9, 2) := dk_21 9 (dk_at dksX0_build_3 10 rfl rfl)
theorem dX0_build_82 : decode cX0_build 82 = .ok (.iconst 1, 1) := dk_4 (dk_at dksX0_build_3 12 rfl rfl)
theorem dX0_build_83 : decode cX0_build 83 = .ok (.invokestatic 320, 3) := dk_184 1 64 (dk_at dksX0_build_3 13 rfl rfl)
theorem dX0_build_86 : decode cX0_build 86 = .ok (.imul, 1) := dk_104 (dk_at dksX0_build_3 16 rfl rfl)
theorem dX0_build_87 : decode cX0_build 87 = .ok (.iadd, 1) := dk_96 (dk_at dksX0_build_3 17 rfl rfl)
theorem dX0_build_88 : decode cX0_build 88 = .ok (.iconst 4, 1) := dk_7 (dk_at dksX0_build_3 18 rfl rfl)
theorem dX0_build_89 : decode cX0_build 89 = .ok (.iload 9, 2) := dk_21 9 (dk_at dksX0_build_3 19 rfl rfl)
theorem dX0_build_91 : decode cX0_build 91 = .ok (.iconst 2, 1) := dk_5 (dk_at dksX0_build_3 21 rfl rfl)
theorem dX0_build_92 : decode cX0_build 92 = .ok (.invokestatic 320, 3) := dk_184 1 64 (dk_at dksX0_build_4 0 rfl rfl)
theorem dX0_build_95 : decode cX0_build 95 = .ok (.imul, 1) := dk_104 (dk_at dksX0_build_4 3 rfl rfl)
theorem dX0_build_96 : decode cX0_build 96 = .ok (.iadd, 1) := dk_96 (dk_at dksX0_build_4 4 rfl rfl)
theorem dX0_build_97 : decode cX0_build 97 = .ok (.istore 10, 2) := dk_54 10 (dk_at dksX0_build_4 5 rfl rfl)
theorem dX0_build_99 : decode cX0_build 99 = .ok (.iload 10, 2) := dk_21 10 (dk_at dksX0_build_4 7 rfl rfl)
theorem dX0_build_101 : decode cX0_build 101 = .ok (.iload_n 1, 1) := dk_27 (dk_at dksX0_build_4 9 rfl rfl)
theorem dX0_build_102 : decode cX0_build 102 = .ok (.if_icmp .le 6, 3) := dk_164 0 6 (dk_at dksX0_build_4 10 rfl rfl)
theorem dX0_build_105 : decode cX0_build 105 = .ok (.goto 67, 3) := dk_167 0 67 (dk_at dksX0_build_4 13 rfl rfl)
theorem dX0_build_108 : decode cX0_build 108 = .ok (.iconst 0, 1) := dk_3 (dk_at dksX0_build_4 16 rfl rfl)
theorem dX0_build_109 : decode cX0_build 109 = .ok (.istore 11, 2) := dk_54 11 (dk_at dksX0_build_4 17 rfl rfl)
theorem dX0_build_111 : decode cX0_build 111 = .ok (.iload 11, 2) := dk_21 11 (dk_at dksX0_build_4 19 rfl rfl)
theorem dX0_build_113 : decode cX0_build 113 = .ok (.iconst 3, 1) := dk_6 (dk_at dksX0_build_4 21 rfl rfl)
theorem dX0_build_114 : decode cX0_build 114 = .ok (.if_icmp .ge 24, 3) := dk_162 0 24 (dk_at dksX0_build_5 0 rfl rfl)
theorem dX0_build_117 : decode cX0_build 117 = .ok (.aload 4, 2) := dk_25 4 (dk_at dksX0_build_5 3 rfl rfl)
theorem dX0_build_119 : decode cX0_build 119 = .ok (.getfield 181, 3) := dk_180 0 181 (dk_at dksX0_build_5 5 rfl rfl)
theorem dX0_build_122 : decode cX0_build 122 = .ok (.iload 11, 2) := dk_21 11 (dk_at dksX0_build_5 8 rfl rfl)
theorem dX0_build_124 : decode cX0_build 124 = .ok (.iload 9, 2) := dk_21 9 (dk_at dksX0_build_5 10 rfl rfl)
theorem dX0_build_126 : decode cX0_build 126 = .ok (.iload 11, 2) := dk_21 11 (dk_at dksX0_build_5 12 rfl rfl)
theorem dX0_build_128 : decode cX0_build 128 = .ok (.invokestatic 320, 3) := dk_184 1 64 (dk_at dksX0_build_5 14 rfl rfl)
theorem dX0_build_131 : decode cX0_build 131 = .ok (.iastore, 1) := dk_79 (dk_at dksX0_build_5 17 rfl rfl)
theorem dX0_build_132 : decode cX0_build 132 = .ok (.iinc 11 1, 3) := dk_132 11 1 (dk_at dksX0_build_5 18 rfl rfl)
theorem dX0_build_135 : decode cX0_build 135 = .ok (.goto (-24), 3) := dk_167 255 232 (dk_at dksX0_build_5 21 rfl rfl)
theorem dX0_build_138 : decode cX0_build 138 = .ok (.aload 4, 2) := dk_25 4 (dk_at dksX0_build_6 0 rfl rfl)
theorem dX0_build_140 : decode cX0_build 140 = .ok (.iload_n 2, 1) := dk_28 (dk_at dksX0_build_6 2 rfl rfl)
theorem dX0_build_141 : decode cX0_build 141 = .ok (.invokestatic 278, 3) := dk_184 1 22 (dk_at dksX0_build_6 3 rfl rfl)
theorem dX0_build_144 : decode cX0_build 144 = .ok (.lstore 11, 2) := dk_55 11 (dk_at dksX0_build_6 6 rfl rfl)
theorem dX0_build_146 : decode cX0_build 146 = .ok (.iload 5, 2) := dk_21 5 (dk_at dksX0_build_6 8 rfl rfl)
theorem dX0_build_148 : decode cX0_build 148 = .ok (.iconst (-1), 1) := dk_2 (dk_at dksX0_build_6 10 rfl rfl)
theorem dX0_build_149 : decode cX0_build 149 = .ok (.if_icmp .eq 11, 3) := dk_159 0 11 (dk_at dksX0_build_6 11 rfl rfl)
theorem dX0_build_152 : decode cX0_build 152 = .ok (.lload 11, 2) := dk_22 11 (dk_at dksX0_build_6 14 rfl rfl)
theorem dX0_build_154 : decode cX0_build 154 = .ok (.lload 7, 2) := dk_22 7 (dk_at dksX0_build_6 16 rfl rfl)
theorem dX0_build_156 : decode cX0_build 156 = .ok (.lcmp, 1) := dk_148 (dk_at dksX0_build_6 18 rfl rfl)
theorem dX0_build_157 : decode cX0_build 157 = .ok (.ifCond .le 15, 3) := dk_158 0 15 (dk_at dksX0_build_6 19 rfl rfl)
theorem dX0_build_160 : decode cX0_build 160 = .ok (.iload 9, 2) := dk_21 9 (dk_at dksX0_build_6 22 rfl rfl)
theorem dX0_build_162 : decode cX0_build 162 = .ok (.istore 5, 2) := dk_54 5 (dk_at dksX0_build_7 0 rfl rfl)
theorem dX0_build_164 : decode cX0_build 164 = .ok (.iload 10, 2) := dk_21 10 (dk_at dksX0_build_7 2 rfl rfl)
theorem dX0_build_166 : decode cX0_build 166 = .ok (.istore 6, 2) := dk_54 6 (dk_at dksX0_build_7 4 rfl rfl)
theorem dX0_build_168 : decode cX0_build 168 = .ok (.lload 11, 2) := dk_22 11 (dk_at dksX0_build_7 6 rfl rfl)
theorem dX0_build_170 : decode cX0_build 170 = .ok (.lstore 7, 2) := dk_55 7 (dk_at dksX0_build_7 8 rfl rfl)
theorem dX0_build_172 : decode cX0_build 172 = .ok (.iinc 9 1, 3) := dk_132 9 1 (dk_at dksX0_build_7 10 rfl rfl)
theorem dX0_build_175 : decode cX0_build 175 = .ok (.goto (-109), 3) := dk_167 255 147 (dk_at dksX0_build_7 13 rfl rfl)
theorem dX0_build_178 : decode cX0_build 178 = .ok (.iload_n 3, 1) := dk_29 (dk_at dksX0_build_7 16 rfl rfl)
theorem dX0_build_179 : decode cX0_build 179 = .ok (.ifCond .ne 8, 3) := dk_154 0 8 (dk_at dksX0_build_7 17 rfl rfl)
theorem dX0_build_182 : decode cX0_build 182 = .ok (.iload 5, 2) := dk_21 5 (dk_at dksX0_build_7 20 rfl rfl)
theorem dX0_build_184 : decode cX0_build 184 = .ok (.goto 5, 3) := dk_167 0 5 (dk_at dksX0_build_8 0 rfl rfl)
theorem dX0_build_187 : decode cX0_build 187 = .ok (.iload 6, 2) := dk_21 6 (dk_at dksX0_build_8 3 rfl rfl)
theorem dX0_build_189 : decode cX0_build 189 = .ok (.ireturn, 1) := dk_172 (dk_at dksX0_build_8 5 rfl rfl)
abbrev cX0_worth : ByteArray := prog_1_method_55_code
def yX0_worth : MethodName := ⟨RX0, "worth", "(II)J"⟩
def dkwX0_worth_3 : List UInt8 := [28, 184, 1, 22, 45, 28, 184, 1, 22, 101, 173]
abbrev dktX0_worth_3 : List UInt8 := dkwX0_worth_3 ++ []
def dkwX0_worth_2 : List UInt8 := [180, 0, 85, 182, 0, 230, 78, 45, 180, 0, 181, 27, 92, 46, 4, 100, 79, 42, 180, 0, 59, 180, 0, 85]
abbrev dktX0_worth_2 : List UInt8 := dkwX0_worth_2 ++ dktX0_worth_3
def dkwX0_worth_1 : List UInt8 := [180, 0, 59, 180, 0, 85, 27, 182, 0, 246, 154, 0, 10, 42, 16, 251, 182, 1, 12, 173, 42, 180, 0, 59]
abbrev dktX0_worth_1 : List UInt8 := dkwX0_worth_1 ++ dktX0_worth_2
def dkwX0_worth_0 : List UInt8 := [27, 184, 0, 175, 153, 0, 10, 28, 184, 1, 15, 154, 0, 10, 42, 16, 254, 182, 1, 12, 173, 42]
abbrev dktX0_worth_0 : List UInt8 := dkwX0_worth_0 ++ dktX0_worth_1
theorem dksX0_worth_0 : cX0_worth.data.toList.drop 0 = dktX0_worth_0 := by decide +kernel
theorem dksX0_worth_1 : cX0_worth.data.toList.drop 22 = dktX0_worth_1 := dk_seg dksX0_worth_0 22 rfl rfl
theorem dksX0_worth_2 : cX0_worth.data.toList.drop 46 = dktX0_worth_2 := dk_seg dksX0_worth_1 24 rfl rfl
theorem dksX0_worth_3 : cX0_worth.data.toList.drop 70 = dktX0_worth_3 := dk_seg dksX0_worth_2 24 rfl rfl
theorem dX0_worth_0 : decode cX0_worth 0 = .ok (.iload_n 1, 1) := dk_27 (dk_at dksX0_worth_0 0 rfl rfl)
theorem dX0_worth_1 : decode cX0_worth 1 = .ok (.invokestatic 175, 3) := dk_184 0 175 (dk_at dksX0_worth_0 1 rfl rfl)
theorem dX0_worth_4 : decode cX0_worth 4 = .ok (.ifCond .eq 10, 3) := dk_153 0 10 (dk_at dksX0_worth_0 4 rfl rfl)
theorem dX0_worth_7 : decode cX0_worth 7 = .ok (.iload_n 2, 1) := dk_28 (dk_at dksX0_worth_0 7 rfl rfl)
theorem dX0_worth_8 : decode cX0_worth 8 = .ok (.invokestatic 271, 3) := dk_184 1 15 (dk_at dksX0_worth_0 8 rfl rfl)
theorem dX0_worth_11 : decode cX0_worth 11 = .ok (.ifCond .ne 10, 3) := dk_154 0 10 (dk_at dksX0_worth_0 11 rfl rfl)
theorem dX0_worth_14 : decode cX0_worth 14 = .ok (.aload_n 0, 1) := dk_42 (dk_at dksX0_worth_0 14 rfl rfl)
theorem dX0_worth_15 : decode cX0_worth 15 = .ok (.bipush (-2), 2) := dk_16 254 (dk_at dksX0_worth_0 15 rfl rfl)
theorem dX0_worth_17 : decode cX0_worth 17 = .ok (.invokevirtual 268, 3) := dk_182 1 12 (dk_at dksX0_worth_0 17 rfl rfl)
theorem dX0_worth_20 : decode cX0_worth 20 = .ok (.lreturn, 1) := dk_173 (dk_at dksX0_worth_0 20 rfl rfl)
theorem dX0_worth_21 : decode cX0_worth 21 = .ok (.aload_n 0, 1) := dk_42 (dk_at dksX0_worth_0 21 rfl rfl)
theorem dX0_worth_22 : decode cX0_worth 22 = .ok (.getfield 59, 3) := dk_180 0 59 (dk_at dksX0_worth_1 0 rfl rfl)
theorem dX0_worth_25 : decode cX0_worth 25 = .ok (.getfield 85, 3) := dk_180 0 85 (dk_at dksX0_worth_1 3 rfl rfl)
theorem dX0_worth_28 : decode cX0_worth 28 = .ok (.iload_n 1, 1) := dk_27 (dk_at dksX0_worth_1 6 rfl rfl)
theorem dX0_worth_29 : decode cX0_worth 29 = .ok (.invokevirtual 246, 3) := dk_182 0 246 (dk_at dksX0_worth_1 7 rfl rfl)
theorem dX0_worth_32 : decode cX0_worth 32 = .ok (.ifCond .ne 10, 3) := dk_154 0 10 (dk_at dksX0_worth_1 10 rfl rfl)
theorem dX0_worth_35 : decode cX0_worth 35 = .ok (.aload_n 0, 1) := dk_42 (dk_at dksX0_worth_1 13 rfl rfl)
theorem dX0_worth_36 : decode cX0_worth 36 = .ok (.bipush (-5), 2) := dk_16 251 (dk_at dksX0_worth_1 14 rfl rfl)
theorem dX0_worth_38 : decode cX0_worth 38 = .ok (.invokevirtual 268, 3) := dk_182 1 12 (dk_at dksX0_worth_1 16 rfl rfl)
theorem dX0_worth_41 : decode cX0_worth 41 = .ok (.lreturn, 1) := dk_173 (dk_at dksX0_worth_1 19 rfl rfl)
theorem dX0_worth_42 : decode cX0_worth 42 = .ok (.aload_n 0, 1) := dk_42 (dk_at dksX0_worth_1 20 rfl rfl)
theorem dX0_worth_43 : decode cX0_worth 43 = .ok (.getfield 59, 3) := dk_180 0 59 (dk_at dksX0_worth_1 21 rfl rfl)
theorem dX0_worth_46 : decode cX0_worth 46 = .ok (.getfield 85, 3) := dk_180 0 85 (dk_at dksX0_worth_2 0 rfl rfl)
theorem dX0_worth_49 : decode cX0_worth 49 = .ok (.invokevirtual 230, 3) := dk_182 0 230 (dk_at dksX0_worth_2 3 rfl rfl)
theorem dX0_worth_52 : decode cX0_worth 52 = .ok (.astore_n 3, 1) := dk_78 (dk_at dksX0_worth_2 6 rfl rfl)
theorem dX0_worth_53 : decode cX0_worth 53 = .ok (.aload_n 3, 1) := dk_45 (dk_at dksX0_worth_2 7 rfl rfl)
theorem dX0_worth_54 : decode cX0_worth 54 = .ok (.getfield 181, 3) := dk_180 0 181 (dk_at dksX0_worth_2 8 rfl rfl)
theorem dX0_worth_57 : decode cX0_worth 57 = .ok (.iload_n 1, 1) := dk_27 (dk_at dksX0_worth_2 11 rfl rfl)
theorem dX0_worth_58 : decode cX0_worth 58 = .ok (.dup2, 1) := dk_92 (dk_at dksX0_worth_2 12 rfl rfl)
theorem dX0_worth_59 : decode cX0_worth 59 = .ok (.iaload, 1) := dk_46 (dk_at dksX0_worth_2 13 rfl rfl)
theorem dX0_worth_60 : decode cX0_worth 60 = .ok (.iconst 1, 1) := dk_4 (dk_at dksX0_worth_2 14 rfl rfl)
theorem dX0_worth_61 : decode cX0_worth 61 = .ok (.isub, 1) := dk_100 (dk_at dksX0_worth_2 15 rfl rfl)
theorem dX0_worth_62 : decode cX0_worth 62 = .ok (.iastore, 1) := dk_79 (dk_at dksX0_worth_2 16 rfl rfl)
theorem dX0_worth_63 : decode cX0_worth 63 = .ok (.aload_n 0, 1) := dk_42 (dk_at dksX0_worth_2 17 rfl rfl)
theorem dX0_worth_64 : decode cX0_worth 64 = .ok (.getfield 59, 3) := dk_180 0 59 (dk_at dksX0_worth_2 18 rfl rfl)
theorem dX0_worth_67 : decode cX0_worth 67 = .ok (.getfield 85, 3) := dk_180 0 85 (dk_at dksX0_worth_2 21 rfl rfl)
theorem dX0_worth_70 : decode cX0_worth 70 = .ok (.iload_n 2, 1) := dk_28 (dk_at dksX0_worth_3 0 rfl rfl)
theorem dX0_worth_71 : decode cX0_worth 71 = .ok (.invokestatic 278, 3) := dk_184 1 22 (dk_at dksX0_worth_3 1 rfl rfl)
theorem dX0_worth_74 : decode cX0_worth 74 = .ok (.aload_n 3, 1) := dk_45 (dk_at dksX0_worth_3 4 rfl rfl)
theorem dX0_worth_75 : decode cX0_worth 75 = .ok (.iload_n 2, 1) := dk_28 (dk_at dksX0_worth_3 5 rfl rfl)
theorem dX0_worth_76 : decode cX0_worth 76 = .ok (.invokestatic 278, 3) := dk_184 1 22 (dk_at dksX0_worth_3 6 rfl rfl)
theorem dX0_worth_79 : decode cX0_worth 79 = .ok (.lsub, 1) := dk_101 (dk_at dksX0_worth_3 9 rfl rfl)
theorem dX0_worth_80 : decode cX0_worth 80 = .ok (.lreturn, 1) := dk_173 (dk_at dksX0_worth_3 10 rfl rfl)
abbrev cX0_price : ByteArray := prog_1_method_56_code
def yX0_price : MethodName := ⟨RX0, "price", "(II)J"⟩
def dkwX0_price_3 : List UInt8 := [182, 0, 47, 54, 4, 45, 21, 4, 47, 45, 21, 4, 27, 184, 0, 1, 100, 47, 101, 173]
abbrev dktX0_price_3 : List UInt8 := dkwX0_price_3 ++ []
def dkwX0_price_2 : List UInt8 := [42, 180, 0, 59, 180, 0, 85, 1, 183, 0, 40, 28, 182, 0, 43, 78, 42, 180, 0, 59, 180, 0, 85]
abbrev dktX0_price_2 : List UInt8 := dkwX0_price_2 ++ dktX0_price_3
def dkwX0_price_1 : List UInt8 := [180, 0, 59, 180, 0, 85, 27, 182, 0, 246, 154, 0, 10, 42, 16, 251, 182, 1, 12, 173, 187, 0, 38, 89]
abbrev dktX0_price_1 : List UInt8 := dkwX0_price_1 ++ dktX0_price_2
def dkwX0_price_0 : List UInt8 := [27, 184, 0, 175, 153, 0, 10, 28, 184, 1, 15, 154, 0, 10, 42, 16, 254, 182, 1, 12, 173, 42]
abbrev dktX0_price_0 : List UInt8 := dkwX0_price_0 ++ dktX0_price_1
theorem dksX0_price_0 : cX0_price.data.toList.drop 0 = dktX0_price_0 := by decide +kernel
theorem dksX0_price_1 : cX0_price.data.toList.drop 22 = dktX0_price_1 := dk_seg dksX0_price_0 22 rfl rfl
theorem dksX0_price_2 : cX0_price.data.toList.drop 46 = dktX0_price_2 := dk_seg dksX0_price_1 24 rfl rfl
theorem dksX0_price_3 : cX0_price.data.toList.drop 69 = dktX0_price_3 := dk_seg dksX0_price_2 23 rfl rfl
theorem dX0_price_0 : decode cX0_price 0 = .ok (.iload_n 1, 1) := dk_27 (dk_at dksX0_price_0 0 rfl rfl)
theorem dX0_price_1 : decode cX0_price 1 = .ok (.invokestatic 175, 3) := dk_184 0 175 (dk_at dksX0_price_0 1 rfl rfl)
theorem dX0_price_4 : decode cX0_price 4 = .ok (.ifCond .eq 10, 3) := dk_153 0 10 (dk_at dksX0_price_0 4 rfl rfl)
theorem dX0_price_7 : decode cX0_price 7 = .ok (.iload_n 2, 1) := dk_28 (dk_at dksX0_price_0 7 rfl rfl)
theorem dX0_price_8 : decode cX0_price 8 = .ok (.invokestatic 271, 3) := dk_184 1 15 (dk_at dksX0_price_0 8 rfl rfl)
theorem dX0_price_11 : decode cX0_price 11 = .ok (.ifCond .ne 10, 3) := dk_154 0 10 (dk_at dksX0_price_0 11 rfl rfl)
theorem dX0_price_14 : decode cX0_price 14 = .ok (.aload_n 0, 1) := dk_42 (dk_at dksX0_price_0 14 rfl rfl)
theorem dX0_price_15 : decode cX0_price 15 = .ok (.bipush (-2), 2) := dk_16 254 (dk_at dksX0_price_0 15 rfl rfl)
theorem dX0_price_17 : decode cX0_price 17 = .ok (.invokevirtual 268, 3) := dk_182 1 12 (dk_at dksX0_price_0 17 rfl rfl)
theorem dX0_price_20 : decode cX0_price 20 = .ok (.lreturn, 1) := dk_173 (dk_at dksX0_price_0 20 rfl rfl)
theorem dX0_price_21 : decode cX0_price 21 = .ok (.aload_n 0, 1) := dk_42 (dk_at dksX0_price_0 21 rfl rfl)
theorem dX0_price_22 : decode cX0_price 22 = .ok (.getfield 59, 3) := dk_180 0 59 (dk_at dksX0_price_1 0 rfl rfl)
theorem dX0_price_25 : decode cX0_price 25 = .ok (.getfield 85, 3) := dk_180 0 85 (dk_at dksX0_price_1 3 rfl rfl)
theorem dX0_price_28 : decode cX0_price 28 = .ok (.iload_n 1, 1) := dk_27 (dk_at dksX0_price_1 6 rfl rfl)
theorem dX0_price_29 : decode cX0_price 29 = .ok (.invokevirtual 246, 3) := dk_182 0 246 (dk_at dksX0_price_1 7 rfl rfl)
theorem dX0_price_32 : decode cX0_price 32 = .ok (.ifCond .ne 10, 3) := dk_154 0 10 (dk_at dksX0_price_1 10 rfl rfl)
theorem dX0_price_35 : decode cX0_price 35 = .ok (.aload_n 0, 1) := dk_42 (dk_at dksX0_price_1 13 rfl rfl)
theorem dX0_price_36 : decode cX0_price 36 = .ok (.bipush (-5), 2) := dk_16 251 (dk_at dksX0_price_1 14 rfl rfl)
theorem dX0_price_38 : decode cX0_price 38 = .ok (.invokevirtual 268, 3) := dk_182 1 12 (dk_at dksX0_price_1 16 rfl rfl)
theorem dX0_price_41 : decode cX0_price 41 = .ok (.lreturn, 1) := dk_173 (dk_at dksX0_price_1 19 rfl rfl)
theorem dX0_price_42 : decode cX0_price 42 = .ok (.new 38, 3) := dk_187 0 38 (dk_at dksX0_price_1 20 rfl rfl)
theorem dX0_price_45 : decode cX0_price 45 = .ok (.dup, 1) := dk_89 (dk_at dksX0_price_1 23 rfl rfl)
theorem dX0_price_46 : decode cX0_price 46 = .ok (.aload_n 0, 1) := dk_42 (dk_at dksX0_price_2 0 rfl rfl)
theorem dX0_price_47 : decode cX0_price 47 = .ok (.getfield 59, 3) := dk_180 0 59 (dk_at dksX0_price_2 1 rfl rfl)
theorem dX0_price_50 : decode cX0_price 50 = .ok (.getfield 85, 3) := dk_180 0 85 (dk_at dksX0_price_2 4 rfl rfl)
theorem dX0_price_53 : decode cX0_price 53 = .ok (.aconst_null, 1) := dk_1 (dk_at dksX0_price_2 7 rfl rfl)
theorem dX0_price_54 : decode cX0_price 54 = .ok (.invokespecial 40, 3) := dk_183 0 40 (dk_at dksX0_price_2 8 rfl rfl)
theorem dX0_price_57 : decode cX0_price 57 = .ok (.iload_n 2, 1) := dk_28 (dk_at dksX0_price_2 11 rfl rfl)
theorem dX0_price_58 : decode cX0_price 58 = .ok (.invokevirtual 43, 3) := dk_182 0 43 (dk_at dksX0_price_2 12 rfl rfl)
theorem dX0_price_61 : decode cX0_price 61 = .ok (.astore_n 3, 1) := dk_78 (dk_at dksX0_price_2 15 rfl rfl)
theorem dX0_price_62 : decode cX0_price 62 = .ok (.aload_n 0, 1) := dk_42 (dk_at dksX0_price_2 16 rfl rfl)
theorem dX0_price_63 : decode cX0_price 63 = .ok (.getfield 59, 3) := dk_180 0 59 (dk_at dksX0_price_2 17 rfl rfl)
theorem dX0_price_66 : decode cX0_price 66 = .ok (.getfield 85, 3) := dk_180 0 85 (dk_at dksX0_price_2 20 rfl rfl)
theorem dX0_price_69 : decode cX0_price 69 = .ok (.invokevirtual 47, 3) := dk_182 0 47 (dk_at dksX0_price_3 0 rfl rfl)
theorem dX0_price_72 : decode cX0_price 72 = .ok (.istore 4, 2) := dk_54 4 (dk_at dksX0_price_3 3 rfl rfl)
theorem dX0_price_74 : decode cX0_price 74 = .ok (.aload_n 3, 1) := dk_45 (dk_at dksX0_price_3 5 rfl rfl)
theorem dX0_price_75 : decode cX0_price 75 = .ok (.iload 4, 2) := dk_21 4 (dk_at dksX0_price_3 6 rfl rfl)
theorem dX0_price_77 : decode cX0_price 77 = .ok (.laload, 1) := dk_47 (dk_at dksX0_price_3 8 rfl rfl)
theorem dX0_price_78 : decode cX0_price 78 = .ok (.aload_n 3, 1) := dk_45 (dk_at dksX0_price_3 9 rfl rfl)
theorem dX0_price_79 : decode cX0_price 79 = .ok (.iload 4, 2) := dk_21 4 (dk_at dksX0_price_3 10 rfl rfl)
theorem dX0_price_81 : decode cX0_price 81 = .ok (.iload_n 1, 1) := dk_27 (dk_at dksX0_price_3 12 rfl rfl)
theorem dX0_price_82 : decode cX0_price 82 = .ok (.invokestatic 1, 3) := dk_184 0 1 (dk_at dksX0_price_3 13 rfl rfl)
theorem dX0_price_85 : decode cX0_price 85 = .ok (.isub, 1) := dk_100 (dk_at dksX0_price_3 16 rfl rfl)
theorem dX0_price_86 : decode cX0_price 86 = .ok (.laload, 1) := dk_47 (dk_at dksX0_price_3 17 rfl rfl)
theorem dX0_price_87 : decode cX0_price 87 = .ok (.lsub, 1) := dk_101 (dk_at dksX0_price_3 18 rfl rfl)
theorem dX0_price_88 : decode cX0_price 88 = .ok (.lreturn, 1) := dk_173 (dk_at dksX0_price_3 19 rfl rfl)
abbrev cX0_brings : ByteArray := prog_1_method_57_code
def yX0_brings : MethodName := ⟨RX0, "brings", "(II)J"⟩
def dkwX0_brings_2 : List UInt8 := [28, 184, 1, 22, 45, 28, 184, 1, 22, 101, 173]
abbrev dktX0_brings_2 : List UInt8 := dkwX0_brings_2 ++ []
def dkwX0_brings_1 : List UInt8 := [180, 0, 59, 180, 0, 85, 182, 0, 230, 78, 45, 180, 0, 210, 27, 3, 79, 42, 180, 0, 59, 180, 0, 85]
abbrev dktX0_brings_1 : List UInt8 := dkwX0_brings_1 ++ dktX0_brings_2
def dkwX0_brings_0 : List UInt8 := [42, 27, 182, 0, 204, 153, 0, 10, 28, 184, 1, 15, 154, 0, 10, 42, 16, 254, 182, 1, 12, 173, 42]
abbrev dktX0_brings_0 : List UInt8 := dkwX0_brings_0 ++ dktX0_brings_1
theorem dksX0_brings_0 : cX0_brings.data.toList.drop 0 = dktX0_brings_0 := by decide +kernel
theorem dksX0_brings_1 : cX0_brings.data.toList.drop 23 = dktX0_brings_1 := dk_seg dksX0_brings_0 23 rfl rfl
theorem dksX0_brings_2 : cX0_brings.data.toList.drop 47 = dktX0_brings_2 := dk_seg dksX0_brings_1 24 rfl rfl
theorem dX0_brings_0 : decode cX0_brings 0 = .ok (.aload_n 0, 1) := dk_42 (dk_at dksX0_brings_0 0 rfl rfl)
theorem dX0_brings_1 : decode cX0_brings 1 = .ok (.iload_n 1, 1) := dk_27 (dk_at dksX0_brings_0 1 rfl rfl)
theorem dX0_brings_2 : decode cX0_brings 2 = .ok (.invokevirtual 204, 3) := dk_182 0 204 (dk_at dksX0_brings_0 2 rfl rfl)
theorem dX0_brings_5 : decode cX0_brings 5 = .ok (.ifCond .eq 10, 3) := dk_153 0 10 (dk_at dksX0_brings_0 5 rfl rfl)
theorem dX0_brings_8 : decode cX0_brings 8 = .ok (.iload_n 2, 1) := dk_28 (dk_at dksX0_brings_0 8 rfl rfl)
theorem dX0_brings_9 : decode cX0_brings 9 = .ok (.invokestatic 271, 3) := dk_184 1 15 (dk_at dksX0_brings_0 9 rfl rfl)
theorem dX0_brings_12 : decode cX0_brings 12 = .ok (.ifCond .ne 10, 3) := dk_154 0 10 (dk_at dksX0_brings_0 12 rfl rfl)
theorem dX0_brings_15 : decode cX0_brings 15 = .ok (.aload_n 0, 1) := dk_42 (dk_at dksX0_brings_0 15 rfl rfl)
theorem dX0_brings_16 : decode cX0_brings 16 = .ok (.bipush (-2), 2) := dk_16 254 (dk_at dksX0_brings_0 16 rfl rfl)
theorem dX0_brings_18 : decode cX0_brings 18 = .ok (.invokevirtual 268, 3) := dk_182 1 12 (dk_at dksX0_brings_0 18 rfl rfl)
theorem dX0_brings_21 : decode cX0_brings 21 = .ok (.lreturn, 1) := dk_173 (dk_at dksX0_brings_0 21 rfl rfl)
theorem dX0_brings_22 : decode cX0_brings 22 = .ok (.aload_n 0, 1) := dk_42 (dk_at dksX0_brings_0 22 rfl rfl)
theorem dX0_brings_23 : decode cX0_brings 23 = .ok (.getfield 59, 3) := dk_180 0 59 (dk_at dksX0_brings_1 0 rfl rfl)
theorem dX0_brings_26 : decode cX0_brings 26 = .ok (.getfield 85, 3) := dk_180 0 85 (dk_at dksX0_brings_1 3 rfl rfl)
theorem dX0_brings_29 : decode cX0_brings 29 = .ok (.invokevirtual 230, 3) := dk_182 0 230 (dk_at dksX0_brings_1 6 rfl rfl)
theorem dX0_brings_32 : decode cX0_brings 32 = .ok (.astore_n 3, 1) := dk_78 (dk_at dksX0_brings_1 9 rfl rfl)
theorem dX0_brings_33 : decode cX0_brings 33 = .ok (.aload_n 3, 1) := dk_45 (dk_at dksX0_brings_1 10 rfl rfl)
theorem dX0_brings_34 : decode cX0_brings 34 = .ok (.getfield 210, 3) := dk_180 0 210 (dk_at dksX0_brings_1 11 rfl rfl)
theorem dX0_brings_37 : decode cX0_brings 37 = .ok (.iload_n 1, 1) := dk_27 (dk_at dksX0_brings_1 14 rfl rfl)
theorem dX0_brings_38 : decode cX0_brings 38 = .ok (.iconst 0, 1) := dk_3 (dk_at dksX0_brings_1 15 rfl rfl)
theorem dX0_brings_39 : decode cX0_brings 39 = .ok (.iastore, 1) := dk_79 (dk_at dksX0_brings_1 16 rfl rfl)
theorem dX0_brings_40 : decode cX0_brings 40 = .ok (.aload_n 0, 1) := dk_42 (dk_at dksX0_brings_1 17 rfl rfl)
theorem dX0_brings_41 : decode cX0_brings 41 = .ok (.getfield 59, 3) := dk_180 0 59 (dk_at dksX0_brings_1 18 rfl rfl)
theorem dX0_brings_44 : decode cX0_brings 44 = .ok (.getfield 85, 3) := dk_180 0 85 (dk_at dksX0_brings_1 21 rfl rfl)
theorem dX0_brings_47 : decode cX0_brings 47 = .ok (.iload_n 2, 1) := dk_28 (dk_at dksX0_brings_2 0 rfl rfl)
theorem dX0_brings_48 : decode cX0_brings 48 = .ok (.invokestatic 278, 3) := dk_184 1 22 (dk_at dksX0_brings_2 1 rfl rfl)
theorem dX0_brings_51 : decode cX0_brings 51 = .ok (.aload_n 3, 1) := dk_45 (dk_at dksX0_brings_2 4 rfl rfl)
theorem dX0_brings_52 : decode cX0_brings 52 = .ok (.iload_n 2, 1) := dk_28 (dk_at dksX0_brings_2 5 rfl rfl)
theorem dX0_brings_53 : decode cX0_brings 53 = .ok (.invokestatic 278, 3) := dk_184 1 22 (dk_at dksX0_brings_2 6 rfl rfl)
theorem dX0_brings_56 : decode cX0_brings 56 = .ok (.lsub, 1) := dk_101 (dk_at dksX0_brings_2 9 rfl rfl)
theorem dX0_brings_57 : decode cX0_brings 57 = .ok (.lreturn, 1) := dk_173 (dk_at dksX0_brings_2 10 rfl rfl)
abbrev cX0_fits : ByteArray := prog_1_method_58_code
def yX0_fits : MethodName := ⟨RX0, "fits", "(I)I"⟩
def dkwX0_fits_2 : List UInt8 := [153, 0, 9, 4, 29, 120, 167, 0, 4, 3, 128, 61, 132, 3, 1, 167, 255, 213, 28, 172]
abbrev dktX0_fits_2 : List UInt8 := dkwX0_fits_2 ++ []
def dkwX0_fits_1 : List UInt8 := [28, 42, 180, 0, 59, 180, 0, 85, 27, 29, 42, 180, 0, 59, 180, 0, 85, 182, 0, 47, 182, 0, 28]
abbrev dktX0_fits_1 : List UInt8 := dkwX0_fits_1 ++ dktX0_fits_2
def dkwX0_fits_0 : List UInt8 := [42, 27, 182, 0, 204, 154, 0, 10, 42, 16, 254, 182, 0, 79, 172, 3, 61, 3, 62, 29, 6, 162, 0, 44]
abbrev dktX0_fits_0 : List UInt8 := dkwX0_fits_0 ++ dktX0_fits_1
theorem dksX0_fits_0 : cX0_fits.data.toList.drop 0 = dktX0_fits_0 := by decide +kernel
theorem dksX0_fits_1 : cX0_fits.data.toList.drop 24 = dktX0_fits_1 := dk_seg dksX0_fits_0 24 rfl rfl
theorem dksX0_fits_2 : cX0_fits.data.toList.drop 47 = dktX0_fits_2 := dk_seg dksX0_fits_1 23 rfl rfl
theorem dX0_fits_0 : decode cX0_fits 0 = .ok (.aload_n 0, 1) := dk_42 (dk_at dksX0_fits_0 0 rfl rfl)
theorem dX0_fits_1 : decode cX0_fits 1 = .ok (.iload_n 1, 1) := dk_27 (dk_at dksX0_fits_0 1 rfl rfl)
theorem dX0_fits_2 : decode cX0_fits 2 = .ok (.invokevirtual 204, 3) := dk_182 0 204 (dk_at dksX0_fits_0 2 rfl rfl)
theorem dX0_fits_5 : decode cX0_fits 5 = .ok (.ifCond .ne 10, 3) := dk_154 0 10 (dk_at dksX0_fits_0 5 rfl rfl)
theorem dX0_fits_8 : decode cX0_fits 8 = .ok (.aload_n 0, 1) := dk_42 (dk_at dksX0_fits_0 8 rfl rfl)
theorem dX0_fits_9 : decode cX0_fits 9 = .ok (.bipush (-2), 2) := dk_16 254 (dk_at dksX0_fits_0 9 rfl rfl)
theorem dX0_fits_11 : decode cX0_fits 11 = .ok (.invokevirtual 79, 3) := dk_182 0 79 (dk_at dksX0_fits_0 11 rfl rfl)
theorem dX0_fits_14 : decode cX0_fits 14 = .ok (.ireturn, 1) := dk_172 (dk_at dksX0_fits_0 14 rfl rfl)
theorem dX0_fits_15 : decode cX0_fits 15 = .ok (.iconst 0, 1) := dk_3 (dk_at dksX0_fits_0 15 rfl rfl)
theorem dX0_fits_16 : decode cX0_fits 16 = .ok (.istore_n 2, 1) := dk_61 (dk_at dksX0_fits_0 16 rfl rfl)
theorem dX0_fits_17 : decode cX0_fits 17 = .ok (.iconst 0, 1) := dk_3 (dk_at dksX0_fits_0 17 rfl rfl)
theorem dX0_fits_18 : decode cX0_fits 18 = .ok (.istore_n 3, 1) := dk_62 (dk_at dksX0_fits_0 18 rfl rfl)
theorem dX0_fits_19 : decode cX0_fits 19 = .ok (.iload_n 3, 1) := dk_29 (dk_at dksX0_fits_0 19 rfl rfl)
theorem dX0_fits_20 : decode cX0_fits 20 = .ok (.iconst 3, 1) := dk_6 (dk_at dksX0_fits_0 20 rfl rfl)
theorem dX0_fits_21 : decode cX0_fits 21 = .ok (.if_icmp .ge 44, 3) := dk_162 0 44 (dk_at dksX0_fits_0 21 rfl rfl)
theorem dX0_fits_24 : decode cX0_fits 24 = .ok (.iload_n 2, 1) := dk_28 (dk_at dksX0_fits_1 0 rfl rfl)
theorem dX0_fits_25 : decode cX0_fits 25 = .ok (.aload_n 0, 1) := dk_42 (dk_at dksX0_fits_1 1 rfl rfl)
theorem dX0_fits_26 : decode cX0_fits 26 = .ok (.getfield 59, 3) := dk_180 0 59 (dk_at dksX0_fits_1 2 rfl rfl)
theorem dX0_fits_29 : decode cX0_fits 29 = .ok (.getfield 85, 3) := dk_180 0 85 (dk_at dksX0_fits_1 5 rfl rfl)
theorem dX0_fits_32 : decode cX0_fits 32 = .ok (.iload_n 1, 1) := dk_27 (dk_at dksX0_fits_1 8 rfl rfl)
theorem dX0_fits_33 : decode cX0_fits 33 = .ok (.iload_n 3, 1) := dk_29 (dk_at dksX0_fits_1 9 rfl rfl)
theorem dX0_fits_34 : decode cX0_fits 34 = .ok (.aload_n 0, 1) := dk_42 (dk_at dksX0_fits_1 10 rfl rfl)
theorem dX0_fits_35 : decode cX0_fits 35 = .ok (.getfield 59, 3) := dk_180 0 59 (dk_at dksX0_fits_1 11 rfl rfl)
theorem dX0_fits_38 : decode cX0_fits 38 = .ok (.getfield 85, 3) := dk_180 0 85 (dk_at dksX0_fits_1 14 rfl rfl)
theorem dX0_fits_41 : decode cX0_fits 41 = .ok (.invokevirtual 47, 3) := dk_182 0 47 (dk_at dksX0_fits_1 17 rfl rfl)
theorem dX0_fits_44 : decode cX0_fits 44 = .ok (.invokevirtual 28, 3) := dk_182 0 28 (dk_at dksX0_fits_1 20 rfl rfl)
theorem dX0_fits_47 : decode cX0_fits 47 = .ok (.ifCond .eq 9, 3) := dk_153 0 9 (dk_at dksX0_fits_2 0 rfl rfl)
theorem dX0_fits_50 : decode cX0_fits 50 = .ok (.iconst 1, 1) := dk_4 (dk_at dksX0_fits_2 3 rfl rfl)
theorem dX0_fits_51 : decode cX0_fits 51 = .ok (.iload_n 3, 1) := dk_29 (dk_at dksX0_fits_2 4 rfl rfl)
theorem dX0_fits_52 : decode cX0_fits 52 = .ok (.ishl, 1) := dk_120 (dk_at dksX0_fits_2 5 rfl rfl)
theorem dX0_fits_53 : decode cX0_fits 53 = .ok (.goto 4, 3) := dk_167 0 4 (dk_at dksX0_fits_2 6 rfl rfl)
theorem dX0_fits_56 : decode cX0_fits 56 = .ok (.iconst 0, 1) := dk_3 (dk_at dksX0_fits_2 9 rfl rfl)
theorem dX0_fits_57 : decode cX0_fits 57 = .ok (.ior, 1) := dk_128 (dk_at dksX0_fits_2 10 rfl rfl)
theorem dX0_fits_58 : decode cX0_fits 58 = .ok (.istore_n 2, 1) := dk_61 (dk_at dksX0_fits_2 11 rfl rfl)
theorem dX0_fits_59 : decode cX0_fits 59 = .ok (.iinc 3 1, 3) := dk_132 3 1 (dk_at dksX0_fits_2 12 rfl rfl)
theorem dX0_fits_62 : decode cX0_fits 62 = .ok (.goto (-43), 3) := dk_167 255 213 (dk_at dksX0_fits_2 15 rfl rfl)
theorem dX0_fits_65 : decode cX0_fits 65 = .ok (.iload_n 2, 1) := dk_28 (dk_at dksX0_fits_2 18 rfl rfl)
theorem dX0_fits_66 : decode cX0_fits 66 = .ok (.ireturn, 1) := dk_172 (dk_at dksX0_fits_2 19 rfl rfl)
abbrev cX0_worst : ByteArray := prog_1_method_59_code
def yX0_worst : MethodName := ⟨RX0, "worst", "(I)I"⟩
def dkwX0_worst_3 : List UInt8 := [156, 0, 6, 21, 4, 62, 132, 4, 1, 167, 255, 217, 29, 172]
abbrev dktX0_worst_3 : List UInt8 := dkwX0_worst_3 ++ []
def dkwX0_worst_2 : List UInt8 := [42, 180, 0, 59, 180, 0, 85, 21, 4, 182, 0, 249, 153, 0, 17, 44, 21, 4, 47, 44, 29, 47, 148]
abbrev dktX0_worst_2 : List UInt8 := dkwX0_worst_2 ++ dktX0_worst_3
def dkwX0_worst_1 : List UInt8 := [180, 0, 85, 1, 183, 0, 40, 27, 182, 0, 43, 77, 3, 62, 4, 54, 4, 21, 4, 16, 125, 162, 0, 38]
abbrev dktX0_worst_1 : List UInt8 := dkwX0_worst_1 ++ dktX0_worst_2
def dkwX0_worst_0 : List UInt8 := [27, 184, 1, 15, 154, 0, 10, 42, 16, 254, 182, 0, 79, 172, 187, 0, 38, 89, 42, 180, 0, 59]
abbrev dktX0_worst_0 : List UInt8 := dkwX0_worst_0 ++ dktX0_worst_1
theorem dksX0_worst_0 : cX0_worst.data.toList.drop 0 = dktX0_worst_0 := by decide +kernel
theorem dksX0_worst_1 : cX0_worst.data.toList.drop 22 = dktX0_worst_1 := dk_seg dksX0_worst_0 22 rfl rfl
theorem dksX0_worst_2 : cX0_worst.data.toList.drop 46 = dktX0_worst_2 := dk_seg dksX0_worst_1 24 rfl rfl
theorem dksX0_worst_3 : cX0_worst.data.toList.drop 69 = dktX0_worst_3 := dk_seg dksX0_worst_2 23 rfl rfl
theorem dX0_worst_0 : decode cX0_worst 0 = .ok (.iload_n 1, 1) := dk_27 (dk_at dksX0_worst_0 0 rfl rfl)
theorem dX0_worst_1 : decode cX0_worst 1 = .ok (.invokestatic 271, 3) := dk_184 1 15 (dk_at dksX0_worst_0 1 rfl rfl)
theorem dX0_worst_4 : decode cX0_worst 4 = .ok (.ifCond .ne 10, 3) := dk_154 0 10 (dk_at dksX0_worst_0 4 rfl rfl)
theorem dX0_worst_7 : decode cX0_worst 7 = .ok (.aload_n 0, 1) := dk_42 (dk_at dksX0_worst_0 7 rfl rfl)
theorem dX0_worst_8 : decode cX0_worst 8 = .ok (.bipush (-2), 2) := dk_16 254 (dk_at dksX0_worst_0 8 rfl rfl)
theorem dX0_worst_10 : decode cX0_worst 10 = .ok (.invokevirtual 79, 3) := dk_182 0 79 (dk_at dksX0_worst_0 10 rfl rfl)
theorem dX0_worst_13 : decode cX0_worst 13 = .ok (.ireturn, 1) := dk_172 (dk_at dksX0_worst_0 13 rfl rfl)
theorem dX0_worst_14 : decode cX0_worst 14 = .ok (.new 38, 3) := dk_187 0 38 (dk_at dksX0_worst_0 14 rfl rfl)
theorem dX0_worst_17 : decode cX0_worst 17 = .ok (.dup, 1) := dk_89 (dk_at dksX0_worst_0 17 rfl rfl)
theorem dX0_worst_18 : decode cX0_worst 18 = .ok (.aload_n 0, 1) := dk_42 (dk_at dksX0_worst_0 18 rfl rfl)
theorem dX0_worst_19 : decode cX0_worst 19 = .ok (.getfield 59, 3) := dk_180 0 59 (dk_at dksX0_worst_0 19 rfl rfl)
theorem dX0_worst_22 : decode cX0_worst 22 = .ok (.getfield 85, 3) := dk_180 0 85 (dk_at dksX0_worst_1 0 rfl rfl)
theorem dX0_worst_25 : decode cX0_worst 25 = .ok (.aconst_null, 1) := dk_1 (dk_at dksX0_worst_1 3 rfl rfl)
theorem dX0_worst_26 : decode cX0_worst 26 = .ok (.invokespecial 40, 3) := dk_183 0 40 (dk_at dksX0_worst_1 4 rfl rfl)
theorem dX0_worst_29 : decode cX0_worst 29 = .ok (.iload_n 1, 1) := dk_27 (dk_at dksX0_worst_1 7 rfl rfl)
theorem dX0_worst_30 : decode cX0_worst 30 = .ok (.invokevirtual 43, 3) := dk_182 0 43 (dk_at dksX0_worst_1 8 rfl rfl)
theorem dX0_worst_33 : decode cX0_worst 33 = .ok (.astore_n 2, 1) := dk_77 (dk_at dksX0_worst_1 11 rfl rfl)
theorem dX0_worst_34 : decode cX0_worst 34 = .ok (.iconst 0, 1) := dk_3 (dk_at dksX0_worst_1 12 rfl rfl)
theorem dX0_worst_35 : decode cX0_worst 35 = .ok (.istore_n 3, 1) := dk_62 (dk_at dksX0_worst_1 13 rfl rfl)
theorem dX0_worst_36 : decode cX0_worst 36 = .ok (.iconst 1, 1) := dk_4 (dk_at dksX0_worst_1 14 rfl rfl)
theorem dX0_worst_37 : decode cX0_worst 37 = .ok (.istore 4, 2) := dk_54 4 (dk_at dksX0_worst_1 15 rfl rfl)
theorem dX0_worst_39 : decode cX0_worst 39 = .ok (.iload 4, 2) := dk_21 4 (dk_at dksX0_worst_1 17 rfl rfl)
theorem dX0_worst_41 : decode cX0_worst 41 = .ok (.bipush 125, 2) := dk_16 125 (dk_at dksX0_worst_1 19 rfl rfl)
theorem dX0_worst_43 : decode cX0_worst 43 = .ok (.if_icmp .ge 38, 3) := dk_162 0 38 (dk_at dksX0_worst_1 21 rfl rfl)
theorem dX0_worst_46 : decode cX0_worst 46 = .ok (.aload_n 0, 1) := dk_42 (dk_at dksX0_worst_2 0 rfl rfl)
theorem dX0_worst_47 : decode cX0_worst 47 = .ok (.getfield 59, 3) := dk_180 0 59 (dk_at dksX0_worst_2 1 rfl rfl)
theorem dX0_worst_50 : decode cX0_worst 50 = .ok (.getfield 85, 3) := dk_180 0 85 (dk_at dksX0_worst_2 4 rfl rfl)
theorem dX0_worst_53 : decode cX0_worst 53 = .ok (.iload 4, 2) := dk_21 4 (dk_at dksX0_worst_2 7 rfl rfl)
theorem dX0_worst_55 : decode cX0_worst 55 = .ok (.invokevirtual 249, 3) := dk_182 0 249 (dk_at dksX0_worst_2 9 rfl rfl)
theorem dX0_worst_58 : decode cX0_worst 58 = .ok (.ifCond .eq 17, 3) := dk_153 0 17 (dk_at dksX0_worst_2 12 rfl rfl)
theorem dX0_worst_61 : decode cX0_worst 61 = .ok (.aload_n 2, 1) := dk_44 (dk_at dksX0_worst_2 15 rfl rfl)
theorem dX0_worst_62 : decode cX0_worst 62 = .ok (.iload 4, 2) := dk_21 4 (dk_at dksX0_worst_2 16 rfl rfl)
theorem dX0_worst_64 : decode cX0_worst 64 = .ok (.laload, 1) := dk_47 (dk_at dksX0_worst_2 18 rfl rfl)
theorem dX0_worst_65 : decode cX0_worst 65 = .ok (.aload_n 2, 1) := dk_44 (dk_at dksX0_worst_2 19 rfl rfl)
theorem dX0_worst_66 : decode cX0_worst 66 = .ok (.iload_n 3, 1) := dk_29 (dk_at dksX0_worst_2 20 rfl rfl)
theorem dX0_worst_67 : decode cX0_worst 67 = .ok (.laload, 1) := dk_47 (dk_at dksX0_worst_2 21 rfl rfl)
theorem dX0_worst_68 : decode cX0_worst 68 = .ok (.lcmp, 1) := dk_148 (dk_at dksX0_worst_2 22 rfl rfl)
theorem dX0_worst_69 : decode cX0_worst 69 = .ok (.ifCond .ge 6, 3) := dk_156 0 6 (dk_at dksX0_worst_3 0 rfl rfl)
theorem dX0_worst_72 : decode cX0_worst 72 = .ok (.iload 4, 2) := dk_21 4 (dk_at dksX0_worst_3 3 rfl rfl)
theorem dX0_worst_74 : decode cX0_worst 74 = .ok (.istore_n 3, 1) := dk_62 (dk_at dksX0_worst_3 5 rfl rfl)
theorem dX0_worst_75 : decode cX0_worst 75 = .ok (.iinc 4 1, 3) := dk_132 4 1 (dk_at dksX0_worst_3 6 rfl rfl)
theorem dX0_worst_78 : decode cX0_worst 78 = .ok (.goto (-39), 3) := dk_167 255 217 (dk_at dksX0_worst_3 9 rfl rfl)
theorem dX0_worst_81 : decode cX0_worst 81 = .ok (.iload_n 3, 1) := dk_29 (dk_at dksX0_worst_3 12 rfl rfl)
theorem dX0_worst_82 : decode cX0_worst 82 = .ok (.ireturn, 1) := dk_172 (dk_at dksX0_worst_3 13 rfl rfl)
abbrev cX0_board : ByteArray := prog_1_method_60_code
def yX0_board : MethodName := ⟨RX0, "board", "(I)J"⟩
def dkwX0_board_3 : List UInt8 := [184, 1, 68, 79, 44, 27, 184, 1, 22, 42, 180, 0, 59, 180, 0, 85, 27, 184, 1, 22, 101, 173]
abbrev dktX0_board_3 : List UInt8 := dkwX0_board_3 ++ []
def dkwX0_board_2 : List UInt8 := [44, 180, 0, 181, 5, 92, 46, 4, 100, 79, 44, 180, 0, 181, 3, 7, 44, 180, 0, 181, 3, 46, 6, 96]
abbrev dktX0_board_2 : List UInt8 := dkwX0_board_2 ++ dktX0_board_3
def dkwX0_board_1 : List UInt8 := [182, 0, 246, 154, 0, 10, 42, 16, 251, 182, 1, 12, 173, 42, 180, 0, 59, 180, 0, 85, 182, 0, 230, 77]
abbrev dktX0_board_1 : List UInt8 := dkwX0_board_1 ++ dktX0_board_2
def dkwX0_board_0 : List UInt8 := [27, 184, 1, 15, 154, 0, 10, 42, 16, 254, 182, 1, 12, 173, 42, 180, 0, 59, 180, 0, 85, 5]
abbrev dktX0_board_0 : List UInt8 := dkwX0_board_0 ++ dktX0_board_1
theorem dksX0_board_0 : cX0_board.data.toList.drop 0 = dktX0_board_0 := by decide +kernel
theorem dksX0_board_1 : cX0_board.data.toList.drop 22 = dktX0_board_1 := dk_seg dksX0_board_0 22 rfl rfl
theorem dksX0_board_2 : cX0_board.data.toList.drop 46 = dktX0_board_2 := dk_seg dksX0_board_1 24 rfl rfl
theorem dksX0_board_3 : cX0_board.data.toList.drop 70 = dktX0_board_3 := dk_seg dksX0_board_2 24 rfl rfl
theorem dX0_board_0 : decode cX0_board 0 = .ok (.iload_n 1, 1) := dk_27 (dk_at dksX0_board_0 0 rfl rfl)
theorem dX0_board_1 : decode cX0_board 1 = .ok (.invokestatic 271, 3) := dk_184 1 15 (dk_at dksX0_board_0 1 rfl rfl)
theorem dX0_board_4 : decode cX0_board 4 = .ok (.ifCond .ne 10, 3) := dk_154 0 10 (dk_at dksX0_board_0 4 rfl rfl)
theorem dX0_board_7 : decode cX0_board 7 = .ok (.aload_n 0, 1) := dk_42 (dk_at dksX0_board_0 7 rfl rfl)
theorem dX0_board_8 : decode cX0_board 8 = .ok (.bipush (-2), 2) := dk_16 254 (dk_at dksX0_board_0 8 rfl rfl)
theorem dX0_board_10 : decode cX0_board 10 = .ok (.invokevirtual 268, 3) := dk_182 1 12 (dk_at dksX0_board_0 10 rfl rfl)
theorem dX0_board_13 : decode cX0_board 13 = .ok (.lreturn, 1) := dk_173 (dk_at dksX0_board_0 13 rfl rfl)
theorem dX0_board_14 : decode cX0_board 14 = .ok (.aload_n 0, 1) := dk_42 (dk_at dksX0_board_0 14 rfl rfl)
theorem dX0_board_15 : decode cX0_board 15 = .ok (.getfield 59, 3) := dk_180 0 59 (dk_at dksX0_board_0 15 rfl rfl)
theorem dX0_board_18 : decode cX0_board 18 = .ok (.getfield 85, 3) := dk_180 0 85 (dk_at dksX0_board_0 18 rfl rfl)
theorem dX0_board_21 : decode cX0_board 21 = .ok (.iconst 2, 1) := dk_5 (dk_at dksX0_board_0 21 rfl rfl)
theorem dX0_board_22 : decode cX0_board 22 = .ok (.invokevirtual 246, 3) := dk_182 0 246 (dk_at dksX0_board_1 0 rfl rfl)
theorem dX0_board_25 : decode cX0_board 25 = .ok (.ifCond .ne 10, 3) := dk_154 0 10 (dk_at dksX0_board_1 3 rfl rfl)
theorem dX0_board_28 : decode cX0_board 28 = .ok (.aload_n 0, 1) := dk_42 (dk_at dksX0_board_1 6 rfl rfl)
theorem dX0_board_29 : decode cX0_board 29 = .ok (.bipush (-5), 2) := dk_16 251 (dk_at dksX0_board_1 7 rfl rfl)
theorem dX0_board_31 : decode cX0_board 31 = .ok (.invokevirtual 268, 3) := dk_182 1 12 (dk_at dksX0_board_1 9 rfl rfl)
theorem dX0_board_34 : decode cX0_board 34 = .ok (.lreturn, 1) := dk_173 (dk_at dksX0_board_1 12 rfl rfl)
theorem dX0_board_35 : decode cX0_board 35 = .ok (.aload_n 0, 1) := dk_42 (dk_at dksX0_board_1 13 rfl rfl)
theorem dX0_board_36 : decode cX0_board 36 = .ok (.getfield 59, 3) := dk_180 0 59 (dk_at dksX0_board_1 14 rfl rfl)
theorem dX0_board_39 : decode cX0_board 39 = .ok (.getfield 85, 3) := dk_180 0 85 (dk_at dksX0_board_1 17 rfl rfl)
theorem dX0_board_42 : decode cX0_board 42 = .ok (.invokevirtual 230, 3) := dk_182 0 230 (dk_at dksX0_board_1 20 rfl rfl)
theorem dX0_board_45 : decode cX0_board 45 = .ok (.astore_n 2, 1) := dk_77 (dk_at dksX0_board_1 23 rfl rfl)
theorem dX0_board_46 : decode cX0_board 46 = .ok (.aload_n 2, 1) := dk_44 (dk_at dksX0_board_2 0 rfl rfl)
theorem dX0_board_47 : decode cX0_board 47 = .ok (.getfield 181, 3) := dk_180 0 181 (dk_at dksX0_board_2 1 rfl rfl)
theorem dX0_board_50 : decode cX0_board 50 = .ok (.iconst 2, 1) := dk_5 (dk_at dksX0_board_2 4 rfl rfl)
theorem dX0_board_51 : decode cX0_board 51 = .ok (.dup2, 1) := dk_92 (dk_at dksX0_board_2 5 rfl rfl)
theorem dX0_board_52 : decode cX0_board 52 = .ok (.iaload, 1) := dk_46 (dk_at dksX0_board_2 6 rfl rfl)
theorem dX0_board_53 : decode cX0_board 53 = .ok (.iconst 1, 1) := dk_4 (dk_at dksX0_board_2 7 rfl rfl)
theorem dX0_board_54 : decode cX0_board 54 = .ok (.isub, 1) := dk_100 (dk_at dksX0_board_2 8 rfl rfl)
theorem dX0_board_55 : decode cX0_board 55 = .ok (.iastore, 1) := dk_79 (dk_at dksX0_board_2 9 rfl rfl)
theorem dX0_board_56 : decode cX0_board 56 = .ok (.aload_n 2, 1) := dk_44 (dk_at dksX0_board_2 10 rfl rfl)
theorem dX0_board_57 : decode cX0_board 57 = .ok (.getfield 181, 3) := dk_180 0 181 (dk_at dksX0_board_2 11 rfl rfl)
theorem dX0_board_60 : decode cX0_board 60 = .ok (.iconst 0, 1) := dk_3 (dk_at dksX0_board_2 14 rfl rfl)
theorem dX0_board_61 : decode cX0_board 61 = .ok (.iconst 4, 1) := dk_7 (dk_at dksX0_board_2 15 rfl rfl)
theorem dX0_board_62 : decode cX0_board 62 = .ok (.aload_n 2, 1) := dk_44 (dk_at dksX0_board_2 16 rfl rfl)
theorem dX0_board_63 : decode cX0_board 63 = .ok (.getfield 181, 3) := dk_180 0 181 (dk_at dksX0_board_2 17 rfl rfl)
theorem dX0_board_66 : decode cX0_board 66 = .ok (.iconst 0, 1) := dk_3 (dk_at dksX0_board_2 20 rfl rfl)
theorem dX0_board_67 : decode cX0_board 67 = .ok (.iaload, 1) := dk_46 (dk_at dksX0_board_2 21 rfl rfl)
theorem dX0_board_68 : decode cX0_board 68 = .ok (.iconst 3, 1) := dk_6 (dk_at dksX0_board_2 22 rfl rfl)
theorem dX0_board_69 : decode cX0_board 69 = .ok (.iadd, 1) := dk_96 (dk_at dksX0_board_2 23 rfl rfl)
theorem dX0_board_70 : decode cX0_board 70 = .ok (.invokestatic 324, 3) := dk_184 1 68 (dk_at dksX0_board_3 0 rfl rfl)
theorem dX0_board_73 : decode cX0_board 73 = .ok (.iastore, 1) := dk_79 (dk_at dksX0_board_3 3 rfl rfl)
theorem dX0_board_74 : decode cX0_board 74 = .ok (.aload_n 2, 1) := dk_44 (dk_at dksX0_board_3 4 rfl rfl)
theorem dX0_board_75 : decode cX0_board 75 = .ok (.iload_n 1, 1) := dk_27 (dk_at dksX0_board_3 5 rfl rfl)
theorem dX0_board_76 : decode cX0_board 76 = .ok (.invokestatic 278, 3) := dk_184 1 22 (dk_at dksX0_board_3 6 rfl rfl)
theorem dX0_board_79 : decode cX0_board 79 = .ok (.aload_n 0, 1) := dk_42 (dk_at dksX0_board_3 9 rfl rfl)
theorem dX0_board_80 : decode cX0_board 80 = .ok (.getfield 59, 3) := dk_180 0 59 (dk_at dksX0_board_3 10 rfl rfl)
theorem dX0_board_83 : decode cX0_board 83 = .ok (.getfield 85, 3) := dk_180 0 85 (dk_at dksX0_board_3 13 rfl rfl)
theorem dX0_board_86 : decode cX0_board 86 = .ok (.iload_n 1, 1) := dk_27 (dk_at dksX0_board_3 16 rfl rfl)
theorem dX0_board_87 : decode cX0_board 87 = .ok (.invokestatic 278, 3) := dk_184 1 22 (dk_at dksX0_board_3 17 rfl rfl)
theorem dX0_board_90 : decode cX0_board 90 = .ok (.lsub, 1) := dk_101 (dk_at dksX0_board_3 20 rfl rfl)
theorem dX0_board_91 : decode cX0_board 91 = .ok (.lreturn, 1) := dk_173 (dk_at dksX0_board_3 21 rfl rfl)
abbrev cX0_letter : ByteArray := prog_1_method_62_code
def yX0_letter : MethodName := ⟨RX0, "letter", "(II)J"⟩
def dkwX0_letter_1 : List UInt8 := [167, 0, 9, 42, 16, 254, 182, 1, 12, 173]
abbrev dktX0_letter_1 : List UInt8 := dkwX0_letter_1 ++ []
def dkwX0_letter_0 : List UInt8 := [27, 184, 0, 175, 153, 0, 22, 28, 4, 16, 24, 184, 0, 82, 153, 0, 12, 42, 27, 28, 182, 1, 81]
abbrev dktX0_letter_0 : List UInt8 := dkwX0_letter_0 ++ dktX0_letter_1
theorem dksX0_letter_0 : cX0_letter.data.toList.drop 0 = dktX0_letter_0 := by decide +kernel
theorem dksX0_letter_1 : cX0_letter.data.toList.drop 23 = dktX0_letter_1 := dk_seg dksX0_letter_0 23 rfl rfl
theorem dX0_letter_0 : decode cX0_letter 0 = .ok (.iload_n 1, 1) := dk_27 (dk_at dksX0_letter_0 0 rfl rfl)
theorem dX0_letter_1 : decode cX0_letter 1 = .ok (.invokestatic 175, 3) := dk_184 0 175 (dk_at dksX0_letter_0 1 rfl rfl)
theorem dX0_letter_4 : decode cX0_letter 4 = .ok (.ifCond .eq 22, 3) := dk_153 0 22 (dk_at dksX0_letter_0 4 rfl rfl)
theorem dX0_letter_7 : decode cX0_letter 7 = .ok (.iload_n 2, 1) := dk_28 (dk_at dksX0_letter_0 7 rfl rfl)
theorem dX0_letter_8 : decode cX0_letter 8 = .ok (.iconst 1, 1) := dk_4 (dk_at dksX0_letter_0 8 rfl rfl)
theorem dX0_letter_9 : decode cX0_letter 9 = .ok (.bipush 24, 2) := dk_16 24 (dk_at dksX0_letter_0 9 rfl rfl)
theorem dX0_letter_11 : decode cX0_letter 11 = .ok (.invokestatic 82, 3) := dk_184 0 82 (dk_at dksX0_letter_0 11 rfl rfl)
theorem dX0_letter_14 : decode cX0_letter 14 = .ok (.ifCond .eq 12, 3) := dk_153 0 12 (dk_at dksX0_letter_0 14 rfl rfl)
theorem dX0_letter_17 : decode cX0_letter 17 = .ok (.aload_n 0, 1) := dk_42 (dk_at dksX0_letter_0 17 rfl rfl)
theorem dX0_letter_18 : decode cX0_letter 18 = .ok (.iload_n 1, 1) := dk_27 (dk_at dksX0_letter_0 18 rfl rfl)
theorem dX0_letter_19 : decode cX0_letter 19 = .ok (.iload_n 2, 1) := dk_28 (dk_at dksX0_letter_0 19 rfl rfl)
theorem dX0_letter_20 : decode cX0_letter 20 = .ok (.invokevirtual 337, 3) := dk_182 1 81 (dk_at dksX0_letter_0 20 rfl rfl)
theorem dX0_letter_23 : decode cX0_letter 23 = .ok (.goto 9, 3) := dk_167 0 9 (dk_at dksX0_letter_1 0 rfl rfl)
theorem dX0_letter_26 : decode cX0_letter 26 = .ok (.aload_n 0, 1) := dk_42 (dk_at dksX0_letter_1 3 rfl rfl)
theorem dX0_letter_27 : decode cX0_letter 27 = .ok (.bipush (-2), 2) := dk_16 254 (dk_at dksX0_letter_1 4 rfl rfl)
theorem dX0_letter_29 : decode cX0_letter 29 = .ok (.invokevirtual 268, 3) := dk_182 1 12 (dk_at dksX0_letter_1 6 rfl rfl)
theorem dX0_letter_32 : decode cX0_letter 32 = .ok (.lreturn, 1) := dk_173 (dk_at dksX0_letter_1 9 rfl rfl)
abbrev cX0_lettered : ByteArray := prog_1_method_61_code
def yX0_lettered : MethodName := ⟨RX0, "lettered", "(II)J"⟩
def dkwX0_lettered_4 : List UInt8 := [25, 5, 182, 1, 77, 22, 6, 101, 173]
abbrev dktX0_lettered_4 : List UInt8 := dkwX0_lettered_4 ++ []
def dkwX0_lettered_3 : List UInt8 := [25, 5, 27, 46, 6, 96, 184, 1, 68, 79, 45, 42, 180, 0, 59, 180, 0, 85, 182, 0, 47, 25, 4]
abbrev dktX0_lettered_3 : List UInt8 := dkwX0_lettered_3 ++ dktX0_lettered_4
def dkwX0_lettered_2 : List UInt8 := [180, 0, 59, 180, 0, 85, 182, 0, 47, 25, 4, 25, 5, 182, 1, 77, 55, 6, 25, 5, 27, 16, 10]
abbrev dktX0_lettered_2 : List UInt8 := dkwX0_lettered_2 ++ dktX0_lettered_3
def dkwX0_lettered_1 : List UInt8 := [58, 4, 42, 180, 0, 59, 180, 0, 85, 180, 0, 184, 182, 1, 73, 192, 0, 97, 58, 5, 45, 42]
abbrev dktX0_lettered_1 : List UInt8 := dkwX0_lettered_1 ++ dktX0_lettered_2
def dkwX0_lettered_0 : List UInt8 := [187, 0, 38, 89, 42, 180, 0, 59, 180, 0, 85, 1, 183, 0, 40, 78, 45, 28, 4, 100, 182, 0, 43]
abbrev dktX0_lettered_0 : List UInt8 := dkwX0_lettered_0 ++ dktX0_lettered_1
theorem dksX0_lettered_0 : cX0_lettered.data.toList.drop 0 = dktX0_lettered_0 := by decide +kernel
theorem dksX0_lettered_1 : cX0_lettered.data.toList.drop 23 = dktX0_lettered_1 := dk_seg dksX0_lettered_0 23 rfl rfl
theorem dksX0_lettered_2 : cX0_lettered.data.toList.drop 45 = dktX0_lettered_2 := dk_seg dksX0_lettered_1 22 rfl rfl
theorem dksX0_lettered_3 : cX0_lettered.data.toList.drop 68 = dktX0_lettered_3 := dk_seg dksX0_lettered_2 23 rfl rfl
theorem dksX0_lettered_4 : cX0_lettered.data.toList.drop 91 = dktX0_lettered_4 := dk_seg dksX0_lettered_3 23 rfl rfl
theorem dX0_lettered_0 : decode cX0_lettered 0 = .ok (.new 38, 3) := dk_187 0 38 (dk_at dksX0_lettered_0 0 rfl rfl)
theorem dX0_lettered_3 : decode cX0_lettered 3 = .ok (.dup, 1) := dk_89 (dk_at dksX0_lettered_0 3 rfl rfl)
theorem dX0_lettered_4 : decode cX0_lettered 4 = .ok (.aload_n 0, 1) := dk_42 (dk_at dksX0_lettered_0 4 rfl rfl)
theorem dX0_lettered_5 : decode cX0_lettered 5 = .ok (.getfield 59, 3) := dk_180 0 59 (dk_at dksX0_lettered_0 5 rfl rfl)
theorem dX0_lettered_8 : decode cX0_lettered 8 = .ok (.getfield 85, 3) := dk_180 0 85 (dk_at dksX0_lettered_0 8 rfl rfl)
theorem dX0_lettered_11 : decode cX0_lettered 11 = .ok (.aconst_null, 1) := dk_1 (dk_at dksX0_lettered_0 11 rfl rfl)
theorem dX0_lettered_12 : decode cX0_lettered 12 = .ok (.invokespecial 40, 3) := dk_183 0 40 (dk_at dksX0_lettered_0 12 rfl rfl)
theorem dX0_lettered_15 : decode cX0_lettered 15 = .ok (.astore_n 3, 1) := dk_78 (dk_at dksX0_lettered_0 15 rfl rfl)
theorem dX0_lettered_16 : decode cX0_lettered 16 = .ok (.aload_n 3, 1) := dk_45 (dk_at dksX0_lettered_0 16 rfl rfl)
theorem dX0_lettered_17 : decode cX0_lettered 17 = .ok (.iload_n 2, 1) := dk_28 (dk_at dksX0_lettered_0 17 rfl rfl)
theorem dX0_lettered_18 : decode cX0_lettered 18 = .ok (.iconst 1, 1) := dk_4 (dk_at dksX0_lettered_0 18 rfl rfl)
theorem dX0_lettered_19 : decode cX0_lettered 19 = .ok (.isub, 1) := dk_100 (dk_at dksX0_lettered_0 19 rfl rfl)
theorem dX0_lettered_20 : decode cX0_lettered 20 = .ok (.invokevirtual 43, 3) := dk_182 0 43 (dk_at dksX0_lettered_0 20 rfl rfl)
theorem dX0_lettered_23 : decode cX0_lettered 23 = .ok (.astore 4, 2) := dk_58 4 (dk_at dksX0_lettered_1 0 rfl rfl)
theorem dX0_lettered_25 : decode cX0_lettered 25 = .ok (.aload_n 0, 1) := dk_42 (dk_at dksX0_lettered_1 2 rfl rfl)
theorem dX0_lettered_26 : decode cX0_lettered 26 = .ok (.getfield 59, 3) := dk_180 0 59 (dk_at dksX0_lettered_1 3 rfl rfl)
theorem dX0_lettered_29 : decode cX0_lettered 29 = .ok (.getfield 85, 3) := dk_180 0 85 (dk_at dksX0_lettered_1 6 rfl rfl)
theorem dX0_lettered_32 : decode cX0_lettered 32 = .ok (.getfield 184, 3) := dk_180 0 184 (dk_at dksX0_lettered_1 9 rfl rfl)
theorem dX0_lettered_35 : decode cX0_lettered 35 = .ok (.invokevirtual 329, 3) := dk_182 1 73 (dk_at dksX0_lettered_1 12 rfl rfl)
theorem dX0_lettered_38 : decode cX0_lettered 38 = .ok (.checkcast 97, 3) := dk_192 0 97 (dk_at dksX0_lettered_1 15 rfl rfl)
theorem dX0_lettered_41 : decode cX0_lettered 41 = .ok (.astore 5, 2) := dk_58 5 (dk_at dksX0_lettered_1 18 rfl rfl)
theorem dX0_lettered_43 : decode cX0_lettered 43 = .ok (.aload_n 3, 1) := dk_45 (dk_at dksX0_lettered_1 20 rfl rfl)
theorem dX0_lettered_44 : decode cX0_lettered 44 = .ok (.aload_n 0, 1) := dk_42 (dk_at dksX0_lettered_1 21 rfl rfl)
theorem dX0_lettered_45 : decode cX0_lettered 45 = .ok (.getfield 59, 3) := dk_180 0 59 (dk_at dksX0_lettered_2 0 rfl rfl)
theorem dX0_lettered_48 : decode cX0_lettered 48 = .ok (.getfield 85, 3) := dk_180 0 85 (dk_at dksX0_lettered_2 3 rfl rfl)
theorem dX0_lettered_51 : decode cX0_lettered 51 = .ok (.invokevirtual 47, 3) := dk_182 0 47 (dk_at dksX0_lettered_2 6 rfl rfl)
theorem dX0_lettered_54 : decode cX0_lettered 54 = .ok (.aload 4, 2) := dk_25 4 (dk_at dksX0_lettered_2 9 rfl rfl)
theorem dX0_lettered_56 : decode cX0_lettered 56 = .ok (.aload 5, 2) := dk_25 5 (dk_at dksX0_lettered_2 11 rfl rfl)
theorem dX0_lettered_58 : decode cX0_lettered 58 = .ok (.invokevirtual 333, 3) := dk_182 1 77 (dk_at dksX0_lettered_2 13 rfl rfl)
theorem dX0_lettered_61 : decode cX0_lettered 61 = .ok (.lstore 6, 2) := dk_55 6 (dk_at dksX0_lettered_2 16 rfl rfl)
theorem dX0_lettered_63 : decode cX0_lettered 63 = .ok (.aload 5, 2) := dk_25 5 (dk_at dksX0_lettered_2 18 rfl rfl)
theorem dX0_lettered_65 : decode cX0_lettered 65 = .ok (.iload_n 1, 1) := dk_27 (dk_at dksX0_lettered_2 20 rfl rfl)
theorem dX0_lettered_66 : decode cX0_lettered 66 = .ok (.bipush 10, 2) := dk_16 10 (dk_at dksX0_lettered_2 21 rfl rfl)
theorem dX0_lettered_68 : decode cX0_lettered 68 = .ok (.aload 5, 2) := dk_25 5 (dk_at dksX0_lettered_3 0 rfl rfl)
theorem dX0_lettered_70 : decode cX0_lettered 70 = .ok (.iload_n 1, 1) := dk_27 (dk_at dksX0_lettered_3 2 rfl rfl)
theorem dX0_lettered_71 : decode cX0_lettered 71 = .ok (.iaload, 1) := dk_46 (dk_at dksX0_lettered_3 3 rfl rfl)
theorem dX0_lettered_72 : decode cX0_lettered 72 = .ok (.iconst 3, 1) := dk_6 (dk_at dksX0_lettered_3 4 rfl rfl)
theorem dX0_lettered_73 : decode cX0_lettered 73 = .ok (.iadd, 1) := dk_96 (dk_at dksX0_lettered_3 5 rfl rfl)
theorem dX0_lettered_74 : decode cX0_lettered 74 = .ok (.invokestatic 324, 3) := dk_184 1 68 (dk_at dksX0_lettered_3 6 rfl rfl)
theorem dX0_lettered_77 : decode cX0_lettered 77 = .ok (.iastore, 1) := dk_79 (dk_at dksX0_lettered_3 9 rfl rfl)
theorem dX0_lettered_78 : decode cX0_lettered 78 = .ok (.aload_n 3, 1) := dk_45 (dk_at dksX0_lettered_3 10 rfl rfl)
theorem dX0_lettered_79 : decode cX0_lettered 79 = .ok (.aload_n 0, 1) := dk_42 (dk_at dksX0_lettered_3 11 rfl rfl)
theorem dX0_lettered_80 : decode cX0_lettered 80 = .ok (.getfield 59, 3) := dk_180 0 59 (dk_at dksX0_lettered_3 12 rfl rfl)
theorem dX0_lettered_83 : decode cX0_lettered 83 = .ok (.getfield 85, 3) := dk_180 0 85 (dk_at dksX0_lettered_3 15 rfl rfl)
theorem dX0_lettered_86 : decode cX0_lettered 86 = .ok (.invokevirtual 47, 3) := dk_182 0 47 (dk_at dksX0_lettered_3 18 rfl rfl)
theorem dX0_lettered_89 : decode cX0_lettered 89 = .ok (.aload 4, 2) := dk_25 4 (dk_at dksX0_lettered_3 21 rfl rfl)
theorem dX0_lettered_91 : decode cX0_lettered 91 = .ok (.aload 5, 2) := dk_25 5 (dk_at dksX0_lettered_4 0 rfl rfl)
theorem dX0_lettered_93 : decode cX0_lettered 93 = .ok (.invokevirtual 333, 3) := dk_182 1 77 (dk_at dksX0_lettered_4 2 rfl rfl)
theorem dX0_lettered_96 : decode cX0_lettered 96 = .ok (.lload 6, 2) := dk_22 6 (dk_at dksX0_lettered_4 5 rfl rfl)
theorem dX0_lettered_98 : decode cX0_lettered 98 = .ok (.lsub, 1) := dk_101 (dk_at dksX0_lettered_4 7 rfl rfl)
theorem dX0_lettered_99 : decode cX0_lettered 99 = .ok (.lreturn, 1) := dk_173 (dk_at dksX0_lettered_4 8 rfl rfl)
abbrev cX0_whom : ByteArray := prog_1_method_63_code
def yX0_whom : MethodName := ⟨RX0, "whom", "(I)I"⟩
def dkwX0_whom_2 : List UInt8 := [61, 22, 6, 66, 132, 5, 1, 167, 255, 225, 28, 172]
abbrev dktX0_whom_2 : List UInt8 := dkwX0_whom_2 ++ []
def dkwX0_whom_1 : List UInt8 := [21, 5, 6, 162, 0, 31, 42, 21, 5, 27, 182, 1, 81, 55, 6, 22, 6, 33, 148, 158, 0, 9, 21, 5]
abbrev dktX0_whom_1 : List UInt8 := dkwX0_whom_1 ++ dktX0_whom_2
def dkwX0_whom_0 : List UInt8 := [27, 4, 16, 24, 184, 0, 82, 154, 0, 10, 42, 16, 254, 182, 0, 79, 172, 2, 61, 9, 66, 3, 54, 5]
abbrev dktX0_whom_0 : List UInt8 := dkwX0_whom_0 ++ dktX0_whom_1
theorem dksX0_whom_0 : cX0_whom.data.toList.drop 0 = dktX0_whom_0 := by decide +kernel
theorem dksX0_whom_1 : cX0_whom.data.toList.drop 24 = dktX0_whom_1 := dk_seg dksX0_whom_0 24 rfl rfl
theorem dksX0_whom_2 : cX0_whom.data.toList.drop 48 = dktX0_whom_2 := dk_seg dksX0_whom_1 24 rfl rfl
theorem dX0_whom_0 : decode cX0_whom 0 = .ok (.iload_n 1, 1) := dk_27 (dk_at dksX0_whom_0 0 rfl rfl)
theorem dX0_whom_1 : decode cX0_whom 1 = .ok (.iconst 1, 1) := dk_4 (dk_at dksX0_whom_0 1 rfl rfl)
theorem dX0_whom_2 : decode cX0_whom 2 = .ok (.bipush 24, 2) := dk_16 24 (dk_at dksX0_whom_0 2 rfl rfl)
theorem dX0_whom_4 : decode cX0_whom 4 = .ok (.invokestatic 82, 3) := dk_184 0 82 (dk_at dksX0_whom_0 4 rfl rfl)
theorem dX0_whom_7 : decode cX0_whom 7 = .ok (.ifCond .ne 10, 3) := dk_154 0 10 (dk_at dksX0_whom_0 7 rfl rfl)
theorem dX0_whom_10 : decode cX0_whom 10 = .ok (.aload_n 0, 1) := dk_42 (dk_at dksX0_whom_0 10 rfl rfl)
theorem dX0_whom_11 : decode cX0_whom 11 = .ok (.bipush (-2), 2) := dk_16 254 (dk_at dksX0_whom_0 11 rfl rfl)
theorem dX0_whom_13 : decode cX0_whom 13 = .ok (.invokevirtual 79, 3) := dk_182 0 79 (dk_at dksX0_whom_0 13 rfl rfl)
theorem dX0_whom_16 : decode cX0_whom 16 = .ok (.ireturn, 1) := dk_172 (dk_at dksX0_whom_0 16 rfl rfl)
theorem dX0_whom_17 : decode cX0_whom 17 = .ok (.iconst (-1), 1) := dk_2 (dk_at dksX0_whom_0 17 rfl rfl)
theorem dX0_whom_18 : decode cX0_whom 18 = .ok (.istore_n 2, 1) := dk_61 (dk_at dksX0_whom_0 18 rfl rfl)
theorem dX0_whom_19 : decode cX0_whom 19 = .ok (.lconst 0, 1) := dk_9 (dk_at dksX0_whom_0 19 rfl rfl)
theorem dX0_whom_20 : decode cX0_whom 20 = .ok (.lstore_n 3, 1) := dk_66 (dk_at dksX0_whom_0 20 rfl rfl)
theorem dX0_whom_21 : decode cX0_whom 21 = .ok (.iconst 0, 1) := dk_3 (dk_at dksX0_whom_0 21 rfl rfl)
theorem dX0_whom_22 : decode cX0_whom 22 = .ok (.istore 5, 2) := dk_54 5 (dk_at dksX0_whom_0 22 rfl rfl)
theorem dX0_whom_24 : decode cX0_whom 24 = .ok (.iload 5, 2) := dk_21 5 (dk_at dksX0_whom_1 0 rfl rfl)
theorem dX0_whom_26 : decode cX0_whom 26 = .ok (.iconst 3, 1) := dk_6 (dk_at dksX0_whom_1 2 rfl rfl)
theorem dX0_whom_27 : decode cX0_whom 27 = .ok (.if_icmp .ge 31, 3) := dk_162 0 31 (dk_at dksX0_whom_1 3 rfl rfl)
theorem dX0_whom_30 : decode cX0_whom 30 = .ok (.aload_n 0, 1) := dk_42 (dk_at dksX0_whom_1 6 rfl rfl)
theorem dX0_whom_31 : decode cX0_whom 31 = .ok (.iload 5, 2) := dk_21 5 (dk_at dksX0_whom_1 7 rfl rfl)
theorem dX0_whom_33 : decode cX0_whom 33 = .ok (.iload_n 1, 1) := dk_27 (dk_at dksX0_whom_1 9 rfl rfl)
theorem dX0_whom_34 : decode cX0_whom 34 = .ok (.invokevirtual 337, 3) := dk_182 1 81 (dk_at dksX0_whom_1 10 rfl rfl)
theorem dX0_whom_37 : decode cX0_whom 37 = .ok (.lstore 6, 2) := dk_55 6 (dk_at dksX0_whom_1 13 rfl rfl)
theorem dX0_whom_39 : decode cX0_whom 39 = .ok (.lload 6, 2) := dk_22 6 (dk_at dksX0_whom_1 15 rfl rfl)
theorem dX0_whom_41 : decode cX0_whom 41 = .ok (.lload_n 3, 1) := dk_33 (dk_at dksX0_whom_1 17 rfl rfl)
theorem dX0_whom_42 : decode cX0_whom 42 = .ok (.lcmp, 1) := dk_148 (dk_at dksX0_whom_1 18 rfl rfl)
theorem dX0_whom_43 : decode cX0_whom 43 = .ok (.ifCond .le 9, 3) := dk_158 0 9 (dk_at dksX0_whom_1 19 rfl rfl)
theorem dX0_whom_46 : decode cX0_whom 46 = .ok (.iload 5, 2) := dk_21 5 (dk_at dksX0_whom_1 22 rfl rfl)
theorem dX0_whom_48 : decode cX0_whom 48 = .ok (.istore_n 2, 1) := dk_61 (dk_at dksX0_whom_2 0 rfl rfl)
theorem dX0_whom_49 : decode cX0_whom 49 = .ok (.lload 6, 2) := dk_22 6 (dk_at dksX0_whom_2 1 rfl rfl)
theorem dX0_whom_51 : decode cX0_whom 51 = .ok (.lstore_n 3, 1) := dk_66 (dk_at dksX0_whom_2 3 rfl rfl)
theorem dX0_whom_52 : decode cX0_whom 52 = .ok (.iinc 5 1, 3) := dk_132 5 1 (dk_at dksX0_whom_2 4 rfl rfl)
theorem dX0_whom_55 : decode cX0_whom 55 = .ok (.goto (-31), 3) := dk_167 255 225 (dk_at dksX0_whom_2 7 rfl rfl)
theorem dX0_whom_58 : decode cX0_whom 58 = .ok (.iload_n 2, 1) := dk_28 (dk_at dksX0_whom_2 10 rfl rfl)
theorem dX0_whom_59 : decode cX0_whom 59 = .ok (.ireturn, 1) := dk_172 (dk_at dksX0_whom_2 11 rfl rfl)
abbrev cX0_feast : ByteArray := prog_1_method_64_code
def yX0_feast : MethodName := ⟨RX0, "feast", "(II)J"⟩
def dkwX0_feast_4 : List UInt8 := [28, 184, 1, 22, 101, 173]
abbrev dktX0_feast_4 : List UInt8 := dkwX0_feast_4 ++ []
def dkwX0_feast_3 : List UInt8 := [164, 0, 12, 42, 16, 251, 182, 1, 12, 167, 0, 20, 45, 28, 184, 1, 22, 42, 180, 0, 59, 180, 0, 85]
abbrev dktX0_feast_3 : List UInt8 := dkwX0_feast_3 ++ dktX0_feast_4
def dkwX0_feast_2 : List UInt8 := [180, 0, 210, 21, 4, 92, 46, 27, 96, 79, 132, 4, 1, 167, 255, 233, 45, 182, 0, 191, 16, 100]
abbrev dktX0_feast_2 : List UInt8 := dkwX0_feast_2 ++ dktX0_feast_3
def dkwX0_feast_1 : List UInt8 := [42, 180, 0, 59, 180, 0, 85, 182, 0, 230, 78, 3, 54, 4, 21, 4, 45, 180, 0, 89, 162, 0, 20, 45]
abbrev dktX0_feast_1 : List UInt8 := dkwX0_feast_1 ++ dktX0_feast_2
def dkwX0_feast_0 : List UInt8 := [27, 3, 16, 50, 184, 0, 82, 153, 0, 10, 28, 184, 1, 15, 154, 0, 10, 42, 16, 254, 182, 1, 12, 173]
abbrev dktX0_feast_0 : List UInt8 := dkwX0_feast_0 ++ dktX0_feast_1
theorem dksX0_feast_0 : cX0_feast.data.toList.drop 0 = dktX0_feast_0 := by decide +kernel
theorem dksX0_feast_1 : cX0_feast.data.toList.drop 24 = dktX0_feast_1 := dk_seg dksX0_feast_0 24 rfl rfl
theorem dksX0_feast_2 : cX0_feast.data.toList.drop 48 = dktX0_feast_2 := dk_seg dksX0_feast_1 24 rfl rfl
theorem dksX0_feast_3 : cX0_feast.data.toList.drop 70 = dktX0_feast_3 := dk_seg dksX0_feast_2 22 rfl rfl
theorem dksX0_feast_4 : cX0_feast.data.toList.drop 94 = dktX0_feast_4 := dk_seg dksX0_feast_3 24 rfl rfl
theorem dX0_feast_0 : decode cX0_feast 0 = .ok (.iload_n 1, 1) := dk_27 (dk_at dksX0_feast_0 0 rfl rfl)
theorem dX0_feast_1 : decode cX0_feast 1 = .ok (.iconst 0, 1) := dk_3 (dk_at dksX0_feast_0 1 rfl rfl)
theorem dX0_feast_2 : decode cX0_feast 2 = .ok (.bipush 50, 2) := dk_16 50 (dk_at dksX0_feast_0 2 rfl rfl)
theorem dX0_feast_4 : decode cX0_feast 4 = .ok (.invokestatic 82, 3) := dk_184 0 82 (dk_at dksX0_feast_0 4 rfl rfl)
theorem dX0_feast_7 : decode cX0_feast 7 = .ok (.ifCond .eq 10, 3) := dk_153 0 10 (dk_at dksX0_feast_0 7 rfl rfl)
theorem dX0_feast_10 : decode cX0_feast 10 = .ok (.iload_n 2, 1) := dk_28 (dk_at dksX0_feast_0 10 rfl rfl)
theorem dX0_feast_11 : decode cX0_feast 11 = .ok (.invokestatic 271, 3) := dk_184 1 15 (dk_at dksX0_feast_0 11 rfl rfl)
theorem dX0_feast_14 : decode cX0_feast 14 = .ok (.ifCond .ne 10, 3) := dk_154 0 10 (dk_at dksX0_feast_0 14 rfl rfl)
theorem dX0_feast_17 : decode cX0_feast 17 = .ok (.aload_n 0, 1) := dk_42 (dk_at dksX0_feast_0 17 rfl rfl)
theorem dX0_feast_18 : decode cX0_feast 18 = .ok (.bipush (-2), 2) := dk_16 254 (dk_at dksX0_feast_0 18 rfl rfl)
theorem dX0_feast_20 : decode cX0_feast 20 = .ok (.invokevirtual 268, 3) := dk_182 1 12 (dk_at dksX0_feast_0 20 rfl rfl)
theorem dX0_feast_23 : decode cX0_feast 23 = .ok (.lreturn, 1) := dk_173 (dk_at dksX0_feast_0 23 rfl rfl)
theorem dX0_feast_24 : decode cX0_feast 24 = .ok (.aload_n 0, 1) := dk_42 (dk_at dksX0_feast_1 0 rfl rfl)
theorem dX0_feast_25 : decode cX0_feast 25 = .ok (.getfield 59, 3) := dk_180 0 59 (dk_at dksX0_feast_1 1 rfl rfl)
theorem dX0_feast_28 : decode cX0_feast 28 = .ok (.getfield 85, 3) := dk_180 0 85 (dk_at dksX0_feast_1 4 rfl rfl)
theorem dX0_feast_31 : decode cX0_feast 31 = .ok (.invokevirtual 230, 3) := dk_182 0 230 (dk_at dksX0_feast_1 7 rfl rfl)
theorem dX0_feast_34 : decode cX0_feast 34 = .ok (.astore_n 3, 1) := dk_78 (dk_at dksX0_feast_1 10 rfl rfl)
theorem dX0_feast_35 : decode cX0_feast 35 = .ok (.iconst 0, 1) := dk_3 (dk_at dksX0_feast_1 11 rfl rfl)
theorem dX0_feast_36 : decode cX0_feast 36 = .ok (.istore 4, 2) := dk_54 4 (dk_at dksX0_feast_1 12 rfl rfl)
theorem dX0_feast_38 : decode cX0_feast 38 = .ok (.iload 4, 2) := dk_21 4 (dk_at dksX0_feast_1 14 rfl rfl)
theorem dX0_feast_40 : decode cX0_feast 40 = .ok (.aload_n 3, 1) := dk_45 (dk_at dksX0_feast_1 16 rfl rfl)
theorem dX0_feast_41 : decode cX0_feast 41 = .ok (.getfield 89, 3) := dk_180 0 89 (dk_at dksX0_feast_1 17 rfl rfl)
theorem dX0_feast_44 : decode cX0_feast 44 = .ok (.if_icmp .ge 20, 3) := dk_162 0 20 (dk_at dksX0_feast_1 20 rfl rfl)
theorem dX0_feast_47 : decode cX0_feast 47 = .ok (.aload_n 3, 1) := dk_45 (dk_at dksX0_feast_1 23 rfl rfl)
theorem dX0_feast_48 : decode cX0_feast 48 = .ok (.getfield 210, 3) := dk_180 0 210 (dk_at dksX0_feast_2 0 rfl rfl)
theorem dX0_feast_51 : decode cX0_feast 51 = .ok (.iload 4, 2) := dk_21 4 (dk_at dksX0_feast_2 3 rfl rfl)
theorem dX0_feast_53 : decode cX0_feast 53 = .ok (.dup2, 1) := dk_92 (dk_at dksX0_feast_2 5 rfl rfl)
theorem dX0_feast_54 : decode cX0_feast 54 = .ok (.iaload, 1) := dk_46 (dk_at dksX0_feast_2 6 rfl rfl)
theorem dX0_feast_55 : decode cX0_feast 55 = .ok (.iload_n 1, 1) := dk_27 (dk_at dksX0_feast_2 7 rfl rfl)
theorem dX0_feast_56 : decode cX0_feast 56 = .ok (.iadd, 1) := dk_96 (dk_at dksX0_feast_2 8 rfl rfl)
theorem dX0_feast_57 : decode cX0_feast 57 = .ok (.iastore, 1) := dk_79 (dk_at dksX0_feast_2 9 rfl rfl)
theorem dX0_feast_58 : decode cX0_feast 58 = .ok (.iinc 4 1, 3) := dk_132 4 1 (dk_at dksX0_feast_2 10 rfl rfl)
theorem dX0_feast_61 : decode cX0_feast 61 = .ok (.goto (-23), 3) := dk_167 255 233 (dk_at dksX0_feast_2 13 rfl rfl)
theorem dX0_feast_64 : decode cX0_feast 64 = .ok (.aload_n 3, 1) := dk_45 (dk_at dksX0_feast_2 16 rfl rfl)
theorem dX0_feast_65 : decode cX0_feast 65 = .ok (.invokevirtual 191, 3) := dk_182 0 191 (dk_at dksX0_feast_2 17 rfl rfl)
theorem dX0_feast_68 : decode cX0_feast 68 = .ok (.bipush 100, 2) := dk_16 100 (dk_at dksX0_feast_2 20 rfl rfl)
theorem dX0_feast_70 : decode cX0_feast 70 = .ok (.if_icmp .le 12, 3) := dk_164 0 12 (dk_at dksX0_feast_3 0 rfl rfl)
theorem dX0_feast_73 : decode cX0_feast 73 = .ok (.aload_n 0, 1) := dk_42 (dk_at dksX0_feast_3 3 rfl rfl)
theorem dX0_feast_74 : decode cX0_feast 74 = .ok (.bipush (-5), 2) := dk_16 251 (dk_at dksX0_feast_3 4 rfl rfl)
theorem dX0_feast_76 : decode cX0_feast 76 = .ok (.invokevirtual 268, 3) := dk_182 1 12 (dk_at dksX0_feast_3 6 rfl rfl)
theorem dX0_feast_79 : decode cX0_feast 79 = .ok (.goto 20, 3) := dk_167 0 20 (dk_at dksX0_feast_3 9 rfl rfl)
theorem dX0_feast_82 : decode cX0_feast 82 = .ok (.aload_n 3, 1) := dk_45 (dk_at dksX0_feast_3 12 rfl rfl)
theorem dX0_feast_83 : decode cX0_feast 83 = .ok (.iload_n 2, 1) := dk_28 (dk_at dksX0_feast_3 13 rfl rfl)
theorem dX0_feast_84 : decode cX0_feast 84 = .ok (.invokestatic 278, 3) := dk_184 1 22 (dk_at dksX0_feast_3 14 rfl rfl)
theorem dX0_feast_87 : decode cX0_feast 87 = .ok (.aload_n 0, 1) := dk_42 (dk_at dksX0_feast_3 17 rfl rfl)
theorem dX0_feast_88 : decode cX0_feast 88 = .ok (.getfield 59, 3) := dk_180 0 59 (dk_at dksX0_feast_3 18 rfl rfl)
theorem dX0_feast_91 : decode cX0_feast 91 = .ok (.getfield 85, 3) := dk_180 0 85 (dk_at dksX0_feast_3 21 rfl rfl)
theorem dX0_feast_94 : decode cX0_feast 94 = .ok (.iload_n 2, 1) := dk_28 (dk_at dksX0_feast_4 0 rfl rfl)
theorem dX0_feast_95 : decode cX0_feast 95 = .ok (.invokestatic 278, 3) := dk_184 1 22 (dk_at dksX0_feast_4 1 rfl rfl)
theorem dX0_feast_98 : decode cX0_feast 98 = .ok (.lsub, 1) := dk_101 (dk_at dksX0_feast_4 4 rfl rfl)
theorem dX0_feast_99 : decode cX0_feast 99 = .ok (.lreturn, 1) := dk_173 (dk_at dksX0_feast_4 5 rfl rfl)
abbrev cX0_go : ByteArray := prog_1_method_65_code
def yX0_go : MethodName := ⟨RX0, "go", "(II)I"⟩
def dkwX0_go_3 : List UInt8 := [182, 0, 79, 96, 172]
abbrev dktX0_go_3 : List UInt8 := dkwX0_go_3 ++ []
def dkwX0_go_2 : List UInt8 := [182, 1, 85, 96, 54, 4, 132, 5, 1, 167, 255, 234, 21, 4, 172, 78, 19, 1, 89, 42, 45, 180, 0, 133]
abbrev dktX0_go_2 : List UInt8 := dkwX0_go_2 ++ dktX0_go_3
def dkwX0_go_1 : List UInt8 := [182, 1, 0, 3, 54, 4, 3, 54, 5, 21, 5, 28, 162, 0, 22, 21, 4, 42, 180, 0, 59, 45]
abbrev dktX0_go_1 : List UInt8 := dkwX0_go_1 ++ dktX0_go_2
def dkwX0_go_0 : List UInt8 := [42, 28, 4, 17, 0, 200, 184, 0, 82, 27, 182, 0, 252, 78, 45, 42, 180, 0, 59, 180, 0, 85]
abbrev dktX0_go_0 : List UInt8 := dkwX0_go_0 ++ dktX0_go_1
theorem dksX0_go_0 : cX0_go.data.toList.drop 0 = dktX0_go_0 := by decide +kernel
theorem dksX0_go_1 : cX0_go.data.toList.drop 22 = dktX0_go_1 := dk_seg dksX0_go_0 22 rfl rfl
theorem dksX0_go_2 : cX0_go.data.toList.drop 44 = dktX0_go_2 := dk_seg dksX0_go_1 22 rfl rfl
theorem dksX0_go_3 : cX0_go.data.toList.drop 68 = dktX0_go_3 := dk_seg dksX0_go_2 24 rfl rfl
theorem dX0_go_0 : decode cX0_go 0 = .ok (.aload_n 0, 1) := dk_42 (dk_at dksX0_go_0 0 rfl rfl)
theorem dX0_go_1 : decode cX0_go 1 = .ok (.iload_n 2, 1) := dk_28 (dk_at dksX0_go_0 1 rfl rfl)
theorem dX0_go_2 : decode cX0_go 2 = .ok (.iconst 1, 1) := dk_4 (dk_at dksX0_go_0 2 rfl rfl)
theorem dX0_go_3 : decode cX0_go 3 = .ok (.sipush 200, 3) := dk_17 0 200 (dk_at dksX0_go_0 3 rfl rfl)
theorem dX0_go_6 : decode cX0_go 6 = .ok (.invokestatic 82, 3) := dk_184 0 82 (dk_at dksX0_go_0 6 rfl rfl)
theorem dX0_go_9 : decode cX0_go 9 = .ok (.iload_n 1, 1) := dk_27 (dk_at dksX0_go_0 9 rfl rfl)
theorem dX0_go_10 : decode cX0_go 10 = .ok (.invokevirtual 252, 3) := dk_182 0 252 (dk_at dksX0_go_0 10 rfl rfl)
theorem dX0_go_13 : decode cX0_go 13 = .ok (.astore_n 3, 1) := dk_78 (dk_at dksX0_go_0 13 rfl rfl)
theorem dX0_go_14 : decode cX0_go 14 = .ok (.aload_n 3, 1) := dk_45 (dk_at dksX0_go_0 14 rfl rfl)
theorem dX0_go_15 : decode cX0_go 15 = .ok (.aload_n 0, 1) := dk_42 (dk_at dksX0_go_0 15 rfl rfl)
theorem dX0_go_16 : decode cX0_go 16 = .ok (.getfield 59, 3) := dk_180 0 59 (dk_at dksX0_go_0 16 rfl rfl)
theorem dX0_go_19 : decode cX0_go 19 = .ok (.getfield 85, 3) := dk_180 0 85 (dk_at dksX0_go_0 19 rfl rfl)
theorem dX0_go_22 : decode cX0_go 22 = .ok (.invokevirtual 256, 3) := dk_182 1 0 (dk_at dksX0_go_1 0 rfl rfl)
theorem dX0_go_25 : decode cX0_go 25 = .ok (.iconst 0, 1) := dk_3 (dk_at dksX0_go_1 3 rfl rfl)
theorem dX0_go_26 : decode cX0_go 26 = .ok (.istore 4, 2) := dk_54 4 (dk_at dksX0_go_1 4 rfl rfl)
theorem dX0_go_28 : decode cX0_go 28 = .ok (.iconst 0, 1) := dk_3 (dk_at dksX0_go_1 6 rfl rfl)
theorem dX0_go_29 : decode cX0_go 29 = .ok (.istore 5, 2) := dk_54 5 (dk_at dksX0_go_1 7 rfl rfl)
theorem dX0_go_31 : decode cX0_go 31 = .ok (.iload 5, 2) := dk_21 5 (dk_at dksX0_go_1 9 rfl rfl)
theorem dX0_go_33 : decode cX0_go 33 = .ok (.iload_n 2, 1) := dk_28 (dk_at dksX0_go_1 11 rfl rfl)
theorem dX0_go_34 : decode cX0_go 34 = .ok (.if_icmp .ge 22, 3) := dk_162 0 22 (dk_at dksX0_go_1 12 rfl rfl)
theorem dX0_go_37 : decode cX0_go 37 = .ok (.iload 4, 2) := dk_21 4 (dk_at dksX0_go_1 15 rfl rfl)
theorem dX0_go_39 : decode cX0_go 39 = .ok (.aload_n 0, 1) := dk_42 (dk_at dksX0_go_1 17 rfl rfl)
theorem dX0_go_40 : decode cX0_go 40 = .ok (.getfield 59, 3) := dk_180 0 59 (dk_at dksX0_go_1 18 rfl rfl)
theorem dX0_go_43 : decode cX0_go 43 = .ok (.aload_n 3, 1) := dk_45 (dk_at dksX0_go_1 21 rfl rfl)
theorem dX0_go_44 : decode cX0_go 44 = .ok (.invokevirtual 341, 3) := dk_182 1 85 (dk_at dksX0_go_2 0 rfl rfl)
theorem dX0_go_47 : decode cX0_go 47 = .ok (.iadd, 1) := dk_96 (dk_at dksX0_go_2 3 rfl rfl)
theorem dX0_go_48 : decode cX0_go 48 = .ok (.istore 4, 2) := dk_54 4 (dk_at dksX0_go_2 4 rfl rfl)
theorem dX0_go_50 : decode cX0_go 50 = .ok (.iinc 5 1, 3) := dk_132 5 1 (dk_at dksX0_go_2 6 rfl rfl)
theorem dX0_go_53 : decode cX0_go 53 = .ok (.goto (-22), 3) := dk_167 255 234 (dk_at dksX0_go_2 9 rfl rfl)
theorem dX0_go_56 : decode cX0_go 56 = .ok (.iload 4, 2) := dk_21 4 (dk_at dksX0_go_2 12 rfl rfl)
theorem dX0_go_58 : decode cX0_go 58 = .ok (.ireturn, 1) := dk_172 (dk_at dksX0_go_2 14 rfl rfl)
theorem dX0_go_59 : decode cX0_go 59 = .ok (.astore_n 3, 1) := dk_78 (dk_at dksX0_go_2 15 rfl rfl)
theorem dX0_go_60 : decode cX0_go 60 = .ok (.ldc_w 345, 3) := dk_19 1 89 (dk_at dksX0_go_2 16 rfl rfl)
theorem dX0_go_63 : decode cX0_go 63 = .ok (.aload_n 0, 1) := dk_42 (dk_at dksX0_go_2 19 rfl rfl)
theorem dX0_go_64 : decode cX0_go 64 = .ok (.aload_n 3, 1) := dk_45 (dk_at dksX0_go_2 20 rfl rfl)
theorem dX0_go_65 : decode cX0_go 65 = .ok (.getfield 133, 3) := dk_180 0 133 (dk_at dksX0_go_2 21 rfl rfl)
theorem dX0_go_68 : decode cX0_go 68 = .ok (.invokevirtual 79, 3) := dk_182 0 79 (dk_at dksX0_go_3 0 rfl rfl)
theorem dX0_go_71 : decode cX0_go 71 = .ok (.iadd, 1) := dk_96 (dk_at dksX0_go_3 3 rfl rfl)
theorem dX0_go_72 : decode cX0_go 72 = .ok (.ireturn, 1) := dk_172 (dk_at dksX0_go_3 4 rfl rfl)
abbrev cX0_day : ByteArray := prog_1_method_66_code
def yX0_day : MethodName := ⟨RX0, "day", "(I)I"⟩
def dkwX0_day_4 : List UInt8 := [19, 1, 89, 42, 16, 254, 182, 0, 79, 96, 172]
abbrev dktX0_day_4 : List UInt8 := dkwX0_day_4 ++ []
def dkwX0_day_3 : List UInt8 := [42, 180, 0, 59, 180, 1, 99, 172, 42, 180, 0, 59, 180, 1, 102, 172, 42, 180, 0, 59, 180, 1, 105, 172]
abbrev dktX0_day_3 : List UInt8 := dkwX0_day_3 ++ dktX0_day_4
def dkwX0_day_2 : List UInt8 := [42, 180, 0, 59, 180, 1, 90, 172, 42, 180, 0, 59, 180, 1, 93, 172, 42, 180, 0, 59, 180, 1, 96, 172]
abbrev dktX0_day_2 : List UInt8 := dkwX0_day_2 ++ dktX0_day_3
def dkwX0_day_1 : List UInt8 := [170, 0, 0, 0, 0, 0, 87, 0, 0, 0, 0, 0, 0, 0, 5, 0, 0, 0, 39, 0, 0, 0, 47, 0, 0, 0, 55, 0, 0, 0, 63, 0, 0, 0, 71, 0, 0, 0, 79]
abbrev dktX0_day_1 : List UInt8 := dkwX0_day_1 ++ dktX0_day_2
def dkwX0_day_0 : List UInt8 := [27]
abbrev dktX0_day_0 : List UInt8 := dkwX0_day_0 ++ dktX0_day_1
theorem dksX0_day_0 : cX0_day.data.toList.drop 0 = dktX0_day_0 := by decide +kernel
theorem dksX0_day_1 : cX0_day.data.toList.drop 1 = dktX0_day_1 := dk_seg dksX0_day_0 1 rfl rfl
theorem dksX0_day_2 : cX0_day.data.toList.drop 40 = dktX0_day_2 := dk_seg dksX0_day_1 39 rfl rfl
theorem dksX0_day_3 : cX0_day.data.toList.drop 64 = dktX0_day_3 := dk_seg dksX0_day_2 24 rfl rfl
theorem dksX0_day_4 : cX0_day.data.toList.drop 88 = dktX0_day_4 := dk_seg dksX0_day_3 24 rfl rfl
theorem dX0_day_0 : decode cX0_day 0 = .ok (.iload_n 1, 1) := dk_27 (dk_at dksX0_day_0 0 rfl rfl)
theorem dX0_day_1 : decode cX0_day 1 = .ok (.tableswitch 87 0 5 #[39, 47, 55, 63, 71, 79], 39) := by decide +kernel
theorem dX0_day_40 : decode cX0_day 40 = .ok (.aload_n 0, 1) := dk_42 (dk_at dksX0_day_2 0 rfl rfl)
theorem dX0_day_41 : decode cX0_day 41 = .ok (.getfield 59, 3) := dk_180 0 59 (dk_at dksX0_day_2 1 rfl rfl)
theorem dX0_day_44 : decode cX0_day 44 = .ok (.getfield 346, 3) := dk_180 1 90 (dk_at dksX0_day_2 4 rfl rfl)
theorem dX0_day_47 : decode cX0_day 47 = .ok (.ireturn, 1) := dk_172 (dk_at dksX0_day_2 7 rfl rfl)
theorem dX0_day_48 : decode cX0_day 48 = .ok (.aload_n 0, 1) := dk_42 (dk_at dksX0_day_2 8 rfl rfl)
theorem dX0_day_49 : decode cX0_day 49 = .ok (.getfield 59, 3) := dk_180 0 59 (dk_at dksX0_day_2 9 rfl rfl)
theorem dX0_day_52 : decode cX0_day 52 = .ok (.getfield 349, 3) := dk_180 1 93 (dk_at dksX0_day_2 12 rfl rfl)
theorem dX0_day_55 : decode cX0_day 55 = .ok (.ireturn, 1) := dk_172 (dk_at dksX0_day_2 15 rfl rfl)
theorem dX0_day_56 : decode cX0_day 56 = .ok (.aload_n 0, 1) := dk_42 (dk_at dksX0_day_2 16 rfl rfl)
theorem dX0_day_57 : decode cX0_day 57 = .ok (.getfield 59, 3) := dk_180 0 59 (dk_at dksX0_day_2 17 rfl rfl)
theorem dX0_day_60 : decode cX0_day 60 = .ok (.getfield 352, 3) := dk_180 1 96 (dk_at dksX0_day_2 20 rfl rfl)
theorem dX0_day_63 : decode cX0_day 63 = .ok (.ireturn, 1) := dk_172 (dk_at dksX0_day_2 23 rfl rfl)
theorem dX0_day_64 : decode cX0_day 64 = .ok (.aload_n 0, 1) := dk_42 (dk_at dksX0_day_3 0 rfl rfl)
theorem dX0_day_65 : decode cX0_day 65 = .ok (.getfield 59, 3) := dk_180 0 59 (dk_at dksX0_day_3 1 rfl rfl)
theorem dX0_day_68 : decode cX0_day 68 = .ok (.getfield 355, 3) := dk_180 1 99 (dk_at dksX0_day_3 4 rfl rfl)
theorem dX0_day_71 : decode cX0_day 71 = .ok (.ireturn, 1) := dk_172 (dk_at dksX0_day_3 7 rfl rfl)
theorem dX0_day_72 : decode cX0_day 72 = .ok (.aload_n 0, 1) := dk_42 (dk_at dksX0_day_3 8 rfl rfl)
theorem dX0_day_73 : decode cX0_day 73 = .ok (.getfield 59, 3) := dk_180 0 59 (dk_at dksX0_day_3 9 rfl rfl)
theorem dX0_day_76 : decode cX0_day 76 = .ok (.getfield 358, 3) := dk_180 1 102 (dk_at dksX0_day_3 12 rfl rfl)
theorem dX0_day_79 : decode cX0_day 79 = .ok (.ireturn, 1) := dk_172 (dk_at dksX0_day_3 15 rfl rfl)
theorem dX0_day_80 : decode cX0_day 80 = .ok (.aload_n 0, 1) := dk_42 (dk_at dksX0_day_3 16 rfl rfl)
theorem dX0_day_81 : decode cX0_day 81 = .ok (.getfield 59, 3) := dk_180 0 59 (dk_at dksX0_day_3 17 rfl rfl)
theorem dX0_day_84 : decode cX0_day 84 = .ok (.getfield 361, 3) := dk_180 1 105 (dk_at dksX0_day_3 20 rfl rfl)
theorem dX0_day_87 : decode cX0_day 87 = .ok (.ireturn, 1) := dk_172 (dk_at dksX0_day_3 23 rfl rfl)
theorem dX0_day_88 : decode cX0_day 88 = .ok (.ldc_w 345, 3) := dk_19 1 89 (dk_at dksX0_day_4 0 rfl rfl)
theorem dX0_day_91 : decode cX0_day 91 = .ok (.aload_n 0, 1) := dk_42 (dk_at dksX0_day_4 3 rfl rfl)
theorem dX0_day_92 : decode cX0_day 92 = .ok (.bipush (-2), 2) := dk_16 254 (dk_at dksX0_day_4 4 rfl rfl)
theorem dX0_day_94 : decode cX0_day 94 = .ok (.invokevirtual 79, 3) := dk_182 0 79 (dk_at dksX0_day_4 6 rfl rfl)
theorem dX0_day_97 : decode cX0_day 97 = .ok (.iadd, 1) := dk_96 (dk_at dksX0_day_4 9 rfl rfl)
theorem dX0_day_98 : decode cX0_day 98 = .ok (.ireturn, 1) := dk_172 (dk_at dksX0_day_4 10 rfl rfl)
abbrev cX0_seed : ByteArray := prog_1_method_67_code
def yX0_seed : MethodName := ⟨RX0, "seed", "(I)I"⟩
def dkwX0_seed_0 : List UInt8 := [42, 180, 0, 59, 180, 1, 108, 61, 42, 180, 0, 59, 27, 181, 1, 108, 28, 172]
abbrev dktX0_seed_0 : List UInt8 := dkwX0_seed_0 ++ []
theorem dksX0_seed_0 : cX0_seed.data.toList.drop 0 = dktX0_seed_0 := by decide +kernel
theorem dX0_seed_0 : decode cX0_seed 0 = .ok (.aload_n 0, 1) := dk_42 (dk_at dksX0_seed_0 0 rfl rfl)
theorem dX0_seed_1 : decode cX0_seed 1 = .ok (.getfield 59, 3) := dk_180 0 59 (dk_at dksX0_seed_0 1 rfl rfl)
theorem dX0_seed_4 : decode cX0_seed 4 = .ok (.getfield 364, 3) := dk_180 1 108 (dk_at dksX0_seed_0 4 rfl rfl)
theorem dX0_seed_7 : decode cX0_seed 7 = .ok (.istore_n 2, 1) := dk_61 (dk_at dksX0_seed_0 7 rfl rfl)
theorem dX0_seed_8 : decode cX0_seed 8 = .ok (.aload_n 0, 1) := dk_42 (dk_at dksX0_seed_0 8 rfl rfl)
theorem dX0_seed_9 : decode cX0_seed 9 = .ok (.getfield 59, 3) := dk_180 0 59 (dk_at dksX0_seed_0 9 rfl rfl)
theorem dX0_seed_12 : decode cX0_seed 12 = .ok (.iload_n 1, 1) := dk_27 (dk_at dksX0_seed_0 12 rfl rfl)
theorem dX0_seed_13 : decode cX0_seed 13 = .ok (.putfield 364, 3) := dk_181 1 108 (dk_at dksX0_seed_0 13 rfl rfl)
theorem dX0_seed_16 : decode cX0_seed 16 = .ok (.iload_n 2, 1) := dk_28 (dk_at dksX0_seed_0 16 rfl rfl)
theorem dX0_seed_17 : decode cX0_seed 17 = .ok (.ireturn, 1) := dk_172 (dk_at dksX0_seed_0 17 rfl rfl)
abbrev cX0_image : ByteArray := prog_1_method_68_code
def yX0_image : MethodName := ⟨RX0, "image", "()I"⟩
def dkwX0_image_0 : List UInt8 := [42, 42, 180, 0, 59, 182, 1, 111, 181, 1, 114, 4, 172]
abbrev dktX0_image_0 : List UInt8 := dkwX0_image_0 ++ []
theorem dksX0_image_0 : cX0_image.data.toList.drop 0 = dktX0_image_0 := by decide +kernel
theorem dX0_image_0 : decode cX0_image 0 = .ok (.aload_n 0, 1) := dk_42 (dk_at dksX0_image_0 0 rfl rfl)
theorem dX0_image_1 : decode cX0_image 1 = .ok (.aload_n 0, 1) := dk_42 (dk_at dksX0_image_0 1 rfl rfl)
theorem dX0_image_2 : decode cX0_image 2 = .ok (.getfield 59, 3) := dk_180 0 59 (dk_at dksX0_image_0 2 rfl rfl)
theorem dX0_image_5 : decode cX0_image 5 = .ok (.invokevirtual 367, 3) := dk_182 1 111 (dk_at dksX0_image_0 5 rfl rfl)
theorem dX0_image_8 : decode cX0_image 8 = .ok (.putfield 370, 3) := dk_181 1 114 (dk_at dksX0_image_0 8 rfl rfl)
theorem dX0_image_11 : decode cX0_image 11 = .ok (.iconst 1, 1) := dk_4 (dk_at dksX0_image_0 11 rfl rfl)
theorem dX0_image_12 : decode cX0_image 12 = .ok (.ireturn, 1) := dk_172 (dk_at dksX0_image_0 12 rfl rfl)
abbrev cX0_back : ByteArray := prog_1_method_69_code
def yX0_back : MethodName := ⟨RX0, "back", "()I"⟩
def dkwX0_back_1 : List UInt8 := [181, 0, 59, 4, 172]
abbrev dktX0_back_1 : List UInt8 := dkwX0_back_1 ++ []
def dkwX0_back_0 : List UInt8 := [42, 180, 1, 114, 199, 0, 10, 42, 16, 251, 182, 0, 79, 172, 42, 42, 180, 1, 114, 182, 1, 111]
abbrev dktX0_back_0 : List UInt8 := dkwX0_back_0 ++ dktX0_back_1
theorem dksX0_back_0 : cX0_back.data.toList.drop 0 = dktX0_back_0 := by decide +kernel
theorem dksX0_back_1 : cX0_back.data.toList.drop 22 = dktX0_back_1 := dk_seg dksX0_back_0 22 rfl rfl
theorem dX0_back_0 : decode cX0_back 0 = .ok (.aload_n 0, 1) := dk_42 (dk_at dksX0_back_0 0 rfl rfl)
theorem dX0_back_1 : decode cX0_back 1 = .ok (.getfield 370, 3) := dk_180 1 114 (dk_at dksX0_back_0 1 rfl rfl)
theorem dX0_back_4 : decode cX0_back 4 = .ok (.ifnonnull 10, 3) := dk_199 0 10 (dk_at dksX0_back_0 4 rfl rfl)
theorem dX0_back_7 : decode cX0_back 7 = .ok (.aload_n 0, 1) := dk_42 (dk_at dksX0_back_0 7 rfl rfl)
theorem dX0_back_8 : decode cX0_back 8 = .ok (.bipush (-5), 2) := dk_16 251 (dk_at dksX0_back_0 8 rfl rfl)
theorem dX0_back_10 : decode cX0_back 10 = .ok (.invokevirtual 79, 3) := dk_182 0 79 (dk_at dksX0_back_0 10 rfl rfl)
theorem dX0_back_13 : decode cX0_back 13 = .ok (.ireturn, 1) := dk_172 (dk_at dksX0_back_0 13 rfl rfl)
theorem dX0_back_14 : decode cX0_back 14 = .ok (.aload_n 0, 1) := dk_42 (dk_at dksX0_back_0 14 rfl rfl)
theorem dX0_back_15 : decode cX0_back 15 = .ok (.aload_n 0, 1) := dk_42 (dk_at dksX0_back_0 15 rfl rfl)
theorem dX0_back_16 : decode cX0_back 16 = .ok (.getfield 370, 3) := dk_180 1 114 (dk_at dksX0_back_0 16 rfl rfl)
theorem dX0_back_19 : decode cX0_back 19 = .ok (.invokevirtual 367, 3) := dk_182 1 111 (dk_at dksX0_back_0 19 rfl rfl)
theorem dX0_back_22 : decode cX0_back 22 = .ok (.putfield 59, 3) := dk_181 0 59 (dk_at dksX0_back_1 0 rfl rfl)
theorem dX0_back_25 : decode cX0_back 25 = .ok (.iconst 1, 1) := dk_4 (dk_at dksX0_back_1 3 rfl rfl)
theorem dX0_back_26 : decode cX0_back 26 = .ok (.ireturn, 1) := dk_172 (dk_at dksX0_back_1 4 rfl rfl)
abbrev cX0_status : ByteArray := prog_1_method_71_code
def yX0_status : MethodName := ⟨RX0, "status", "(I)I"⟩
def dkwX0_status_6 : List UInt8 := [180, 0, 222, 172, 2, 172]
abbrev dktX0_status_6 : List UInt8 := dkwX0_status_6 ++ []
def dkwX0_status_5 : List UInt8 := [42, 182, 1, 117, 172, 42, 180, 0, 59, 180, 0, 85, 180, 0, 219, 172, 42, 180, 0, 59, 180, 0, 85]
abbrev dktX0_status_5 : List UInt8 := dkwX0_status_5 ++ dktX0_status_6
def dkwX0_status_4 : List UInt8 := [42, 180, 0, 59, 180, 0, 85, 180, 0, 89, 172, 42, 180, 0, 225, 172, 42, 180, 0, 59, 180, 1, 108, 172]
abbrev dktX0_status_4 : List UInt8 := dkwX0_status_4 ++ dktX0_status_5
def dkwX0_status_3 : List UInt8 := [170, 0, 0, 0, 0, 0, 114, 0, 0, 0, 0, 0, 0, 0, 11, 0, 0, 0, 63, 0, 0, 0, 114, 0, 0, 0, 114, 0, 0, 0, 114, 0, 0, 0, 114, 0, 0, 0, 114, 0, 0, 0, 114, 0, 0, 0, 74, 0, 0, 0, 79, 0, 0, 0, 87, 0, 0, 0, 92, 0, 0, 0, 103]
abbrev dktX0_status_3 : List UInt8 := dkwX0_status_3 ++ dktX0_status_4
def dkwX0_status_2 : List UInt8 := [4, 100, 46, 167, 0, 17, 42, 180, 0, 59, 180, 0, 85, 180, 0, 178, 27, 7, 100, 46, 172, 27]
abbrev dktX0_status_2 : List UInt8 := dkwX0_status_2 ++ dktX0_status_3
def dkwX0_status_1 : List UInt8 := [16, 6, 184, 0, 82, 153, 0, 40, 27, 7, 162, 0, 20, 42, 180, 0, 59, 180, 0, 85, 180, 0, 181, 27]
abbrev dktX0_status_1 : List UInt8 := dkwX0_status_1 ++ dktX0_status_2
def dkwX0_status_0 : List UInt8 := [27, 16, 12, 16, 16, 184, 0, 82, 153, 0, 13, 42, 180, 0, 73, 27, 16, 10, 100, 46, 172, 27, 4]
abbrev dktX0_status_0 : List UInt8 := dkwX0_status_0 ++ dktX0_status_1
theorem dksX0_status_0 : cX0_status.data.toList.drop 0 = dktX0_status_0 := by decide +kernel
theorem dksX0_status_1 : cX0_status.data.toList.drop 23 = dktX0_status_1 := dk_seg dksX0_status_0 23 rfl rfl
theorem dksX0_status_2 : cX0_status.data.toList.drop 47 = dktX0_status_2 := dk_seg dksX0_status_1 24 rfl rfl
theorem dksX0_status_3 : cX0_status.data.toList.drop 69 = dktX0_status_3 := dk_seg dksX0_status_2 22 rfl rfl
theorem dksX0_status_4 : cX0_status.data.toList.drop 132 = dktX0_status_4 := dk_seg dksX0_status_3 63 rfl rfl
theorem dksX0_status_5 : cX0_status.data.toList.drop 156 = dktX0_status_5 := dk_seg dksX0_status_4 24 rfl rfl
theorem dksX0_status_6 : cX0_status.data.toList.drop 179 = dktX0_status_6 := dk_seg dksX0_status_5 23 rfl rfl
theorem dX0_status_0 : decode cX0_status 0 = .ok (.iload_n 1, 1) := dk_27 (dk_at dksX0_status_0 0 rfl rfl)
theorem dX0_status_1 : decode cX0_status 1 = .ok (.bipush 12, 2) := dk_16 12 (dk_at dksX0_status_0 1 rfl rfl)
theorem dX0_status_3 : decode cX0_status 3 = .ok (.bipush 16, 2) := dk_16 16 (dk_at dksX0_status_0 3 rfl rfl)
theorem dX0_status_5 : decode cX0_status 5 = .ok (.invokestatic 82, 3) := dk_184 0 82 (dk_at dksX0_status_0 5 rfl rfl)
theorem dX0_status_8 : decode cX0_status 8 = .ok (.ifCond .eq 13, 3) := dk_153 0 13 (dk_at dksX0_status_0 8 rfl rfl)
theorem dX0_status_11 : decode cX0_status 11 = .ok (.aload_n 0, 1) := dk_42 (dk_at dksX0_status_0 11 rfl rfl)
theorem dX0_status_12 : decode cX0_status 12 = .ok (.getfield 73, 3) := dk_180 0 73 (dk_at dksX0_status_0 12 rfl rfl)
theorem dX0_status_15 : decode cX0_status 15 = .ok (.iload_n 1, 1) := dk_27 (dk_at dksX0_status_0 15 rfl rfl)
theorem dX0_status_16 : decode cX0_status 16 = .ok (.bipush 10, 2) := dk_16 10 (dk_at dksX0_status_0 16 rfl rfl)
theorem dX0_status_18 : decode cX0_status 18 = .ok (.isub, 1) := dk_100 (dk_at dksX0_status_0 18 rfl rfl)
theorem dX0_status_19 : decode cX0_status 19 = .ok (.iaload, 1) := dk_46 (dk_at dksX0_status_0 19 rfl rfl)
theorem dX0_status_20 : decode cX0_status 20 = .ok (.ireturn, 1) := dk_172 (dk_at dksX0_status_0 20 rfl rfl)
theorem dX0_status_21 : decode cX0_status 21 = .ok (.iload_n 1, 1) := dk_27 (dk_at dksX0_status_0 21 rfl rfl)
theorem dX0_status_22 : decode cX0_status 22 = .ok (.iconst 1, 1) := dk_4 (dk_at dksX0_status_0 22 rfl rfl)
theorem dX0_status_23 : decode cX0_status 23 = .ok (.bipush 6, 2) := dk_16 6 (dk_at dksX0_status_1 0 rfl rfl)
theorem dX0_status_25 : decode cX0_status 25 = .ok (.invokestatic 82, 3) := dk_184 0 82 (dk_at dksX0_status_1 2 rfl rfl)
theorem dX0_status_28 : decode cX0_status 28 = .ok (.ifCond .eq 40, 3) := dk_153 0 40 (dk_at dksX0_status_1 5 rfl rfl)
theorem dX0_status_31 : decode cX0_status 31 = .ok (.iload_n 1, 1) := dk_27 (dk_at dksX0_status_1 8 rfl rfl)
theorem dX0_status_32 : decode cX0_status 32 = .ok (.iconst 4, 1) := dk_7 (dk_at dksX0_status_1 9 rfl rfl)
theorem dX0_status_33 : decode cX0_status 33 = .ok (.if_icmp .ge 20, 3) := dk_162 0 20 (dk_at dksX0_status_1 10 rfl rfl)
theorem dX0_status_36 : decode cX0_status 36 = .ok (.aload_n 0, 1) := dk_42 (dk_at dksX0_status_1 13 rfl rfl)
theorem dX0_status_37 : decode cX0_status 37 = .ok (.getfield 59, 3) := dk_180 0 59 (dk_at dksX0_status_1 14 rfl rfl)
theorem dX0_status_40 : decode cX0_status 40 = .ok (.getfield 85, 3) := dk_180 0 85 (dk_at dksX0_status_1 17 rfl rfl)
theorem dX0_status_43 : decode cX0_status 43 = .ok (.getfield 181, 3) := dk_180 0 181 (dk_at dksX0_status_1 20 rfl rfl)
theorem dX0_status_46 : decode cX0_status 46 = .ok (.iload_n 1, 1) := dk_27 (dk_at dksX0_status_1 23 rfl rfl)
theorem dX0_status_47 : decode cX0_status 47 = .ok (.iconst 1, 1) := dk_4 (dk_at dksX0_status_2 0 rfl rfl)
theorem dX0_status_48 : decode cX0_status 48 = .ok (.isub, 1) := dk_100 (dk_at dksX0_status_2 1 rfl rfl)
theorem dX0_status_49 : decode cX0_status 49 = .ok (.iaload, 1) := dk_46 (dk_at dksX0_status_2 2 rfl rfl)
theorem dX0_status_50 : decode cX0_status 50 = .ok (.goto 17, 3) := dk_167 0 17 (dk_at dksX0_status_2 3 rfl rfl)
theorem dX0_status_53 : decode cX0_status 53 = .ok (.aload_n 0, 1) := dk_42 (dk_at dksX0_status_2 6 rfl rfl)
theorem dX0_status_54 : decode cX0_status 54 = .ok (.getfield 59, 3) := dk_180 0 59 (dk_at dksX0_status_2 7 rfl rfl)
theorem dX0_status_57 : decode cX0_status 57 = .ok (.getfield 85, 3) := dk_180 0 85 (dk_at dksX0_status_2 10 rfl rfl)
theorem dX0_status_60 : decode cX0_status 60 = .ok (.getfield 178, 3) := dk_180 0 178 (dk_at dksX0_status_2 13 rfl rfl)
theorem dX0_status_63 : decode cX0_status 63 = .ok (.iload_n 1, 1) := dk_27 (dk_at dksX0_status_2 16 rfl rfl)
theorem dX0_status_64 : decode cX0_status 64 = .ok (.iconst 4, 1) := dk_7 (dk_at dksX0_status_2 17 rfl rfl)
theorem dX0_status_65 : decode cX0_status 65 = .ok (.isub, 1) := dk_100 (dk_at dksX0_status_2 18 rfl rfl)
theorem dX0_status_66 : decode cX0_status 66 = .ok (.iaload, 1) := dk_46 (dk_at dksX0_status_2 19 rfl rfl)
theorem dX0_status_67 : decode cX0_status 67 = .ok (.ireturn, 1) := dk_172 (dk_at dksX0_status_2 20 rfl rfl)
theorem dX0_status_68 : decode cX0_status 68 = .ok (.iload_n 1, 1) := dk_27 (dk_at dksX0_status_2 21 rfl rfl)
theorem dX0_status_69 : decode cX0_status 69 = .ok (.tableswitch 114 0 11 #[63, 114, 114, 114, 114, 114, 114, 74, 79, 87, 92, 103], 63) := by decide +kernel
theorem dX0_status_132 : decode cX0_status 132 = .ok (.aload_n 0, 1) := dk_42 (dk_at dksX0_status_4 0 rfl rfl)
theorem dX0_status_133 : decode cX0_status 133 = .ok (.getfield 59, 3) := dk_180 0 59 (dk_at dksX0_status_4 1 rfl rfl)
theorem dX0_status_136 : decode cX0_status 136 = .ok (.getfield 85, 3) := dk_180 0 85 (dk_at dksX0_status_4 4 rfl rfl)
theorem dX0_status_139 : decode cX0_status 139 = .ok (.getfield 89, 3) := dk_180 0 89 (dk_at dksX0_status_4 7 rfl rfl)
theorem dX0_status_142 : decode cX0_status 142 = .ok (.ireturn, 1) := dk_172 (dk_at dksX0_status_4 10 rfl rfl)
theorem dX0_status_143 : decode cX0_status 143 = .ok (.aload_n 0, 1) := dk_42 (dk_at dksX0_status_4 11 rfl rfl)
theorem dX0_status_144 : decode cX0_status 144 = .ok (.getfield 225, 3) := dk_180 0 225 (dk_at dksX0_status_4 12 rfl rfl)
theorem dX0_status_147 : decode cX0_status 147 = .ok (.ireturn, 1) := dk_172 (dk_at dksX0_status_4 15 rfl rfl)
theorem dX0_status_148 : decode cX0_status 148 = .ok (.aload_n 0, 1) := dk_42 (dk_at dksX0_status_4 16 rfl rfl)
theorem dX0_status_149 : decode cX0_status 149 = .ok (.getfield 59, 3) := dk_180 0 59 (dk_at dksX0_status_4 17 rfl rfl)
theorem dX0_status_152 : decode cX0_status 152 = .ok (.getfield 364, 3) := dk_180 1 108 (dk_at dksX0_status_4 20 rfl rfl)
theorem dX0_status_155 : decode cX0_status 155 = .ok (.ireturn, 1) := dk_172 (dk_at dksX0_status_4 23 rfl rfl)
theorem dX0_status_156 : decode cX0_status 156 = .ok (.aload_n 0, 1) := dk_42 (dk_at dksX0_status_5 0 rfl rfl)
theorem dX0_status_157 : decode cX0_status 157 = .ok (.invokevirtual 373, 3) := dk_182 1 117 (dk_at dksX0_status_5 1 rfl rfl)
theorem dX0_status_160 : decode cX0_status 160 = .ok (.ireturn, 1) := dk_172 (dk_at dksX0_status_5 4 rfl rfl)
theorem dX0_status_161 : decode cX0_status 161 = .ok (.aload_n 0, 1) := dk_42 (dk_at dksX0_status_5 5 rfl rfl)
theorem dX0_status_162 : decode cX0_status 162 = .ok (.getfield 59, 3) := dk_180 0 59 (dk_at dksX0_status_5 6 rfl rfl)
theorem dX0_status_165 : decode cX0_status 165 = .ok (.getfield 85, 3) := dk_180 0 85 (dk_at dksX0_status_5 9 rfl rfl)
theorem dX0_status_168 : decode cX0_status 168 = .ok (.getfield 219, 3) := dk_180 0 219 (dk_at dksX0_status_5 12 rfl rfl)
theorem dX0_status_171 : decode cX0_status 171 = .ok (.ireturn, 1) := dk_172 (dk_at dksX0_status_5 15 rfl rfl)
theorem dX0_status_172 : decode cX0_status 172 = .ok (.aload_n 0, 1) := dk_42 (dk_at dksX0_status_5 16 rfl rfl)
theorem dX0_status_173 : decode cX0_status 173 = .ok (.getfield 59, 3) := dk_180 0 59 (dk_at dksX0_status_5 17 rfl rfl)
theorem dX0_status_176 : decode cX0_status 176 = .ok (.getfield 85, 3) := dk_180 0 85 (dk_at dksX0_status_5 20 rfl rfl)
theorem dX0_status_179 : decode cX0_status 179 = .ok (.getfield 222, 3) := dk_180 0 222 (dk_at dksX0_status_6 0 rfl rfl)
theorem dX0_status_182 : decode cX0_status 182 = .ok (.ireturn, 1) := dk_172 (dk_at dksX0_status_6 3 rfl rfl)
theorem dX0_status_183 : decode cX0_status 183 = .ok (.iconst (-1), 1) := dk_2 (dk_at dksX0_status_6 4 rfl rfl)
theorem dX0_status_184 : decode cX0_status 184 = .ok (.ireturn, 1) := dk_172 (dk_at dksX0_status_6 5 rfl rfl)
abbrev cX0_held : ByteArray := prog_1_method_70_code
def yX0_held : MethodName := ⟨RX0, "held", "()I"⟩
def dkwX0_held_1 : List UInt8 := [167, 0, 4, 3, 96, 60, 132, 2, 1, 167, 255, 227, 27, 172]
abbrev dktX0_held_1 : List UInt8 := dkwX0_held_1 ++ []
def dkwX0_held_0 : List UInt8 := [3, 60, 3, 61, 28, 16, 8, 162, 0, 29, 27, 42, 180, 0, 65, 28, 50, 180, 0, 114, 198, 0, 7, 4]
abbrev dktX0_held_0 : List UInt8 := dkwX0_held_0 ++ dktX0_held_1
theorem dksX0_held_0 : cX0_held.data.toList.drop 0 = dktX0_held_0 := by decide +kernel
theorem dksX0_held_1 : cX0_held.data.toList.drop 24 = dktX0_held_1 := dk_seg dksX0_held_0 24 rfl rfl
theorem dX0_held_0 : decode cX0_held 0 = .ok (.iconst 0, 1) := dk_3 (dk_at dksX0_held_0 0 rfl rfl)
theorem dX0_held_1 : decode cX0_held 1 = .ok (.istore_n 1, 1) := dk_60 (dk_at dksX0_held_0 1 rfl rfl)
theorem dX0_held_2 : decode cX0_held 2 = .ok (.iconst 0, 1) := dk_3 (dk_at dksX0_held_0 2 rfl rfl)
theorem dX0_held_3 : decode cX0_held 3 = .ok (.istore_n 2, 1) := dk_61 (dk_at dksX0_held_0 3 rfl rfl)
theorem dX0_held_4 : decode cX0_held 4 = .ok (.iload_n 2, 1) := dk_28 (dk_at dksX0_held_0 4 rfl rfl)
theorem dX0_held_5 : decode cX0_held 5 = .ok (.bipush 8, 2) := dk_16 8 (dk_at dksX0_held_0 5 rfl rfl)
theorem dX0_held_7 : decode cX0_held 7 = .ok (.if_icmp .ge 29, 3) := dk_162 0 29 (dk_at dksX0_held_0 7 rfl rfl)
theorem dX0_held_10 : decode cX0_held 10 = .ok (.iload_n 1, 1) := dk_27 (dk_at dksX0_held_0 10 rfl rfl)
theorem dX0_held_11 : decode cX0_held 11 = .ok (.aload_n 0, 1) := dk_42 (dk_at dksX0_held_0 11 rfl rfl)
theorem dX0_held_12 : decode cX0_held 12 = .ok (.getfield 65, 3) := dk_180 0 65 (dk_at dksX0_held_0 12 rfl rfl)
theorem dX0_held_15 : decode cX0_held 15 = .ok (.iload_n 2, 1) := dk_28 (dk_at dksX0_held_0 15 rfl rfl)
theorem dX0_held_16 : decode cX0_held 16 = .ok (.aaload, 1) := dk_50 (dk_at dksX0_held_0 16 rfl rfl)
theorem dX0_held_17 : decode cX0_held 17 = .ok (.getfield 114, 3) := dk_180 0 114 (dk_at dksX0_held_0 17 rfl rfl)
theorem dX0_held_20 : decode cX0_held 20 = .ok (.ifnull 7, 3) := dk_198 0 7 (dk_at dksX0_held_0 20 rfl rfl)
theorem dX0_held_23 : decode cX0_held 23 = .ok (.iconst 1, 1) := dk_4 (dk_at dksX0_held_0 23 rfl rfl)
theorem dX0_held_24 : decode cX0_held 24 = .ok (.goto 4, 3) := dk_167 0 4 (dk_at dksX0_held_1 0 rfl rfl)
theorem dX0_held_27 : decode cX0_held 27 = .ok (.iconst 0, 1) := dk_3 (dk_at dksX0_held_1 3 rfl rfl)
theorem dX0_held_28 : decode cX0_held 28 = .ok (.iadd, 1) := dk_96 (dk_at dksX0_held_1 4 rfl rfl)
theorem dX0_held_29 : decode cX0_held 29 = .ok (.istore_n 1, 1) := dk_60 (dk_at dksX0_held_1 5 rfl rfl)
theorem dX0_held_30 : decode cX0_held 30 = .ok (.iinc 2 1, 3) := dk_132 2 1 (dk_at dksX0_held_1 6 rfl rfl)
theorem dX0_held_33 : decode cX0_held 33 = .ok (.goto (-29), 3) := dk_167 255 227 (dk_at dksX0_held_1 9 rfl rfl)
theorem dX0_held_36 : decode cX0_held 36 = .ok (.iload_n 1, 1) := dk_27 (dk_at dksX0_held_1 12 rfl rfl)
theorem dX0_held_37 : decode cX0_held 37 = .ok (.ireturn, 1) := dk_172 (dk_at dksX0_held_1 13 rfl rfl)
theorem q66 : (Jvm.Cond.initialized "ThreeSizes") ∈ lw_all := lw_g (lw_at lw_m1 1 rfl) rfl
theorem q103 : (Jvm.Cond.instantiable "ThreeSizes" (6 : Nat)) ∈ lw_all := lw_g (lw_at lw_m1 38 rfl) rfl
theorem q105 : (Jvm.Cond.instanceMethod ({ cls := "ThreeSizes", name := "<init>", desc := "()V" } : Jvm.MethodName)) ∈ lw_all := lw_g (lw_at lw_m1 40 rfl) rfl
theorem q106 : (Jvm.Cond.code ({ cls := "ThreeSizes", name := "<init>", desc := "()V" } : Jvm.MethodName) prog_1_method_7_code (2 : Nat) (Option.none : Option Jvm.ClassFile.FieldType)) ∈ lw_all := lw_g (lw_at lw_m1 41 rfl) rfl
theorem q107 : (Jvm.Cond.methodLink "ThreeSizes" (51 : Nat) ({ cls := "java/lang/Object", name := "<init>", desc := "()V" } : Jvm.MethodName)) ∈ lw_all := lw_g (lw_at lw_m1 42 rfl) rfl
theorem q110 : (Jvm.Cond.classLink "ThreeSizes" (56 : Nat) "ThreeSizes$Day") ∈ lw_all := lw_g (lw_at lw_m1 45 rfl) rfl
theorem q112 : (Jvm.Cond.methodLinkNest "ThreeSizes" (58 : Nat) ({ cls := "ThreeSizes$Day", name := "<init>", desc := "()V" } : Jvm.MethodName) "ThreeSizes") ∈ lw_tbl := lw_at lw_m1 47 rfl
theorem q125 : (Jvm.Cond.fieldLink "ThreeSizes" (181 : Nat) "ThreeSizes$Wall" "boxes" "[I") ∈ lw_all := lw_g (lw_at lw_m1 60 rfl) rfl
theorem q129 : (Jvm.Cond.fieldLink "ThreeSizes" (178 : Nat) "ThreeSizes$Wall" "full" "[I") ∈ lw_all := lw_g (lw_at lw_m1 64 rfl) rfl
theorem q134 : (Jvm.Cond.fieldLink "ThreeSizes" (184 : Nat) "ThreeSizes$Wall" "goes" "[I") ∈ lw_all := lw_g (lw_at lw_m1 69 rfl) rfl
theorem q137 : (Jvm.Cond.fieldLink "ThreeSizes" (207 : Nat) "ThreeSizes$Wall" "need" "[I") ∈ lw_all := lw_g (lw_at lw_m1 72 rfl) rfl
theorem q141 : (Jvm.Cond.fieldLink "ThreeSizes" (210 : Nat) "ThreeSizes$Wall" "comes" "[I") ∈ lw_all := lw_g (lw_at lw_m1 76 rfl) rfl
theorem q146 : (Jvm.Cond.fieldLink "ThreeSizes" (213 : Nat) "ThreeSizes$Wall" "worth" "[I") ∈ lw_all := lw_g (lw_at lw_m1 81 rfl) rfl
theorem q149 : (Jvm.Cond.fieldLink "ThreeSizes" (216 : Nat) "ThreeSizes$Wall" "back" "[I") ∈ lw_all := lw_g (lw_at lw_m1 84 rfl) rfl
theorem q156 : (Jvm.Cond.fieldLink "ThreeSizes" (89 : Nat) "ThreeSizes$Wall" "sorts" "I") ∈ lw_all := lw_g (lw_at lw_m1 91 rfl) rfl
theorem q160 : (Jvm.Cond.fieldLink "ThreeSizes" (219 : Nat) "ThreeSizes$Wall" "near" "I") ∈ lw_all := lw_g (lw_at lw_m1 95 rfl) rfl
theorem q164 : (Jvm.Cond.fieldLink "ThreeSizes" (222 : Nat) "ThreeSizes$Wall" "way" "I") ∈ lw_all := lw_g (lw_at lw_m1 99 rfl) rfl
theorem q190 : (Jvm.Cond.fieldLink "ThreeSizes" (85 : Nat) "ThreeSizes$Day" "wall" "LThreeSizes$Wall;") ∈ lw_all := lw_g (lw_at lw_m1 125 rfl) rfl
theorem q192 : (Jvm.Cond.fieldLink "ThreeSizes" (364 : Nat) "ThreeSizes$Day" "seed" "I") ∈ lw_all := lw_g (lw_at lw_m1 127 rfl) rfl
theorem q194 : (Jvm.Cond.fieldLink "ThreeSizes" (346 : Nat) "ThreeSizes$Day" "hours" "I") ∈ lw_all := lw_g (lw_at lw_m1 129 rfl) rfl
theorem q196 : (Jvm.Cond.fieldLink "ThreeSizes" (349 : Nat) "ThreeSizes$Day" "got" "I") ∈ lw_all := lw_g (lw_at lw_m1 131 rfl) rfl
theorem q198 : (Jvm.Cond.fieldLink "ThreeSizes" (352 : Nat) "ThreeSizes$Day" "went" "I") ∈ lw_all := lw_g (lw_at lw_m1 133 rfl) rfl
theorem q200 : (Jvm.Cond.fieldLink "ThreeSizes" (355 : Nat) "ThreeSizes$Day" "returned" "I") ∈ lw_all := lw_g (lw_at lw_m1 135 rfl) rfl
theorem q202 : (Jvm.Cond.fieldLink "ThreeSizes" (358 : Nat) "ThreeSizes$Day" "fetched" "I") ∈ lw_all := lw_g (lw_at lw_m1 137 rfl) rfl
theorem q204 : (Jvm.Cond.fieldLink "ThreeSizes" (361 : Nat) "ThreeSizes$Day" "taken" "I") ∈ lw_all := lw_g (lw_at lw_m1 139 rfl) rfl
theorem q222 : (Jvm.Cond.classLink "ThreeSizes" (63 : Nat) "ThreeSizes$Sheet") ∈ lw_all := lw_g (lw_at lw_m1 157 rfl) rfl
theorem q225 : (Jvm.Cond.methodLinkNest "ThreeSizes" (76 : Nat) ({ cls := "ThreeSizes$Sheet", name := "<init>", desc := "()V" } : Jvm.MethodName) "ThreeSizes") ∈ lw_tbl := lw_at lw_m1 160 rfl
theorem q229 : (Jvm.Cond.fieldLink "ThreeSizes" (114 : Nat) "ThreeSizes$Sheet" "held" "Ljava/lang/Object;") ∈ lw_all := lw_g (lw_at lw_m1 164 rfl) rfl
theorem q233 : (Jvm.Cond.fieldLink "ThreeSizes" (59 : Nat) "ThreeSizes" "now" "LThreeSizes$Day;") ∈ lw_all := lw_g (lw_at lw_m1 168 rfl) rfl
theorem q234 : (Jvm.Cond.fieldLink "ThreeSizes" (370 : Nat) "ThreeSizes" "image" "LThreeSizes$Day;") ∈ lw_all := lw_g (lw_at lw_m1 169 rfl) rfl
theorem q235 : (Jvm.Cond.fieldLink "ThreeSizes" (65 : Nat) "ThreeSizes" "shelves" "[LThreeSizes$Sheet;") ∈ lw_all := lw_g (lw_at lw_m1 170 rfl) rfl
theorem q236 : (Jvm.Cond.fieldLink "ThreeSizes" (69 : Nat) "ThreeSizes" "tape" "[I") ∈ lw_all := lw_g (lw_at lw_m1 171 rfl) rfl
theorem q237 : (Jvm.Cond.fieldLink "ThreeSizes" (225 : Nat) "ThreeSizes" "size" "I") ∈ lw_all := lw_g (lw_at lw_m1 172 rfl) rfl
theorem q238 : (Jvm.Cond.fieldLink "ThreeSizes" (73 : Nat) "ThreeSizes" "refused" "[I") ∈ lw_all := lw_g (lw_at lw_m1 173 rfl) rfl
theorem q239 : (Jvm.Cond.lays "ThreeSizes" "ThreeSizes" "now" "LThreeSizes$Day;") ∈ lw_all := lw_g (lw_at lw_m1 174 rfl) rfl
theorem q240 : (Jvm.Cond.soleField "ThreeSizes" "now") ∈ lw_all := lw_g (lw_at lw_m1 175 rfl) rfl
theorem q241 : (Jvm.Cond.lays "ThreeSizes" "ThreeSizes" "image" "LThreeSizes$Day;") ∈ lw_all := lw_g (lw_at lw_m1 176 rfl) rfl
theorem q242 : (Jvm.Cond.soleField "ThreeSizes" "image") ∈ lw_all := lw_g (lw_at lw_m1 177 rfl) rfl
theorem q243 : (Jvm.Cond.laysFinal "ThreeSizes" "ThreeSizes" "shelves" "[LThreeSizes$Sheet;") ∈ lw_all := lw_g (lw_at lw_m1 178 rfl) rfl
theorem q244 : (Jvm.Cond.soleField "ThreeSizes" "shelves") ∈ lw_all := lw_g (lw_at lw_m1 179 rfl) rfl
theorem q245 : (Jvm.Cond.laysFinal "ThreeSizes" "ThreeSizes" "tape" "[I") ∈ lw_all := lw_g (lw_at lw_m1 180 rfl) rfl
theorem q246 : (Jvm.Cond.soleField "ThreeSizes" "tape") ∈ lw_all := lw_g (lw_at lw_m1 181 rfl) rfl
theorem q247 : (Jvm.Cond.lays "ThreeSizes" "ThreeSizes" "size" "I") ∈ lw_all := lw_g (lw_at lw_m1 182 rfl) rfl
theorem q248 : (Jvm.Cond.soleField "ThreeSizes" "size") ∈ lw_all := lw_g (lw_at lw_m1 183 rfl) rfl
theorem q249 : (Jvm.Cond.laysFinal "ThreeSizes" "ThreeSizes" "refused" "[I") ∈ lw_all := lw_g (lw_at lw_m1 184 rfl) rfl
theorem q250 : (Jvm.Cond.soleField "ThreeSizes" "refused") ∈ lw_all := lw_g (lw_at lw_m1 185 rfl) rfl
theorem q251 : (Jvm.Cond.superclass "ThreeSizes" "java/lang/Object") ∈ lw_all := lw_g (lw_at lw_m1 186 rfl) rfl
theorem q253 : (Jvm.Cond.instanceMethod ({ cls := "ThreeSizes", name := "row", desc := "(III)I" } : Jvm.MethodName)) ∈ lw_all := lw_g (lw_at lw_m1 188 rfl) rfl
theorem q254 : (Jvm.Cond.selects "ThreeSizes" ({ cls := "ThreeSizes", name := "row", desc := "(III)I" } : Jvm.MethodName) ({ cls := "ThreeSizes", name := "row", desc := "(III)I" } : Jvm.MethodName)) ∈ lw_all := lw_g (lw_at lw_m1 189 rfl) rfl
theorem q255 : (Jvm.Cond.codeWith ({ cls := "ThreeSizes", name := "row", desc := "(III)I" } : Jvm.MethodName) prog_1_method_18_code (5 : Nat) (Option.some Jvm.ClassFile.FieldType.int) [((29 : Nat), (43 : Nat), (46 : Nat), (118 : Nat))]) ∈ lw_all := lw_g (lw_at lw_m1 190 rfl) rfl
theorem q256 : (Jvm.Cond.classLink "ThreeSizes" (118 : Nat) "java/lang/NegativeArraySizeException") ∈ lw_all := lw_g (lw_at lw_m1 191 rfl) rfl
theorem q344 : (Jvm.Cond.methodLink "ThreeSizes" (106 : Nat) ({ cls := "ThreeSizes", name := "isShelf", desc := "(I)Z" } : Jvm.MethodName)) ∈ lw_all := lw_g (lw_at lw_m2 39 rfl) rfl
theorem q345 : (Jvm.Cond.static ({ cls := "ThreeSizes", name := "isShelf", desc := "(I)Z" } : Jvm.MethodName)) ∈ lw_all := lw_g (lw_at lw_m2 40 rfl) rfl
theorem q346 : (Jvm.Cond.code ({ cls := "ThreeSizes", name := "isShelf", desc := "(I)Z" } : Jvm.MethodName) prog_1_method_10_code (1 : Nat) (Option.some Jvm.ClassFile.FieldType.boolean)) ∈ lw_all := lw_g (lw_at lw_m2 41 rfl) rfl
theorem q347 : (Jvm.Cond.methodLink "ThreeSizes" (82 : Nat) ({ cls := "ThreeSizes", name := "isIn", desc := "(III)Z" } : Jvm.MethodName)) ∈ lw_all := lw_g (lw_at lw_m2 42 rfl) rfl
theorem q348 : (Jvm.Cond.static ({ cls := "ThreeSizes", name := "isIn", desc := "(III)Z" } : Jvm.MethodName)) ∈ lw_all := lw_g (lw_at lw_m2 43 rfl) rfl
theorem q349 : (Jvm.Cond.code ({ cls := "ThreeSizes", name := "isIn", desc := "(III)Z" } : Jvm.MethodName) prog_1_method_1_code (3 : Nat) (Option.some Jvm.ClassFile.FieldType.boolean)) ∈ lw_all := lw_g (lw_at lw_m2 44 rfl) rfl
theorem q350 : (Jvm.Cond.methodLink "ThreeSizes" (79 : Nat) ({ cls := "ThreeSizes", name := "no", desc := "(I)I" } : Jvm.MethodName)) ∈ lw_all := lw_g (lw_at lw_m2 45 rfl) rfl
theorem q351 : (Jvm.Cond.privateMethod ({ cls := "ThreeSizes", name := "no", desc := "(I)I" } : Jvm.MethodName)) ∈ lw_tbl := lw_at lw_m2 46 rfl
theorem q352 : (Jvm.Cond.instanceMethod ({ cls := "ThreeSizes", name := "no", desc := "(I)I" } : Jvm.MethodName)) ∈ lw_all := lw_g (lw_at lw_m2 47 rfl) rfl
theorem q353 : (Jvm.Cond.code ({ cls := "ThreeSizes", name := "no", desc := "(I)I" } : Jvm.MethodName) prog_1_method_8_code (2 : Nat) (Option.some Jvm.ClassFile.FieldType.int)) ∈ lw_all := lw_g (lw_at lw_m2 48 rfl) rfl
theorem q354 : (Jvm.Cond.methodLink "ThreeSizes" (110 : Nat) ({ cls := "ThreeSizes", name := "rowOf", desc := "(II)Ljava/lang/Object;" } : Jvm.MethodName)) ∈ lw_all := lw_g (lw_at lw_m2 49 rfl) rfl
theorem q355 : (Jvm.Cond.static ({ cls := "ThreeSizes", name := "rowOf", desc := "(II)Ljava/lang/Object;" } : Jvm.MethodName)) ∈ lw_all := lw_g (lw_at lw_m2 50 rfl) rfl
theorem q356 : (Jvm.Cond.code ({ cls := "ThreeSizes", name := "rowOf", desc := "(II)Ljava/lang/Object;" } : Jvm.MethodName) prog_1_method_14_code (2 : Nat) (Option.some (Jvm.ClassFile.FieldType.object "java/lang/Object"))) ∈ lw_all := lw_g (lw_at lw_m2 51 rfl) rfl
theorem q361 : (Jvm.Cond.instanceMethod ({ cls := "ThreeSizes", name := "set", desc := "(IIJ)I" } : Jvm.MethodName)) ∈ lw_all := lw_g (lw_at lw_m2 56 rfl) rfl
theorem q362 : (Jvm.Cond.selects "ThreeSizes" ({ cls := "ThreeSizes", name := "set", desc := "(IIJ)I" } : Jvm.MethodName) ({ cls := "ThreeSizes", name := "set", desc := "(IIJ)I" } : Jvm.MethodName)) ∈ lw_all := lw_g (lw_at lw_m2 57 rfl) rfl
theorem q363 : (Jvm.Cond.codeWith ({ cls := "ThreeSizes", name := "set", desc := "(IIJ)I" } : Jvm.MethodName) prog_1_method_20_code (6 : Nat) (Option.some Jvm.ClassFile.FieldType.int) [((14 : Nat), (25 : Nat), (26 : Nat), (122 : Nat)), ((14 : Nat), (25 : Nat), (38 : Nat), (136 : Nat))]) ∈ lw_all := lw_g (lw_at lw_m2 58 rfl) rfl
theorem q364 : (Jvm.Cond.classLink "ThreeSizes" (122 : Nat) "ThreeSizes$Refused") ∈ lw_all := lw_g (lw_at lw_m2 59 rfl) rfl
theorem q365 : (Jvm.Cond.classLink "ThreeSizes" (136 : Nat) "java/lang/ArrayIndexOutOfBoundsException") ∈ lw_all := lw_g (lw_at lw_m2 60 rfl) rfl
theorem q384 : (Jvm.Cond.methodLink "ThreeSizes" (125 : Nat) ({ cls := "ThreeSizes", name := "rowIn", desc := "(I)Ljava/lang/Object;" } : Jvm.MethodName)) ∈ lw_all := lw_g (lw_at lw_m2 79 rfl) rfl
theorem q385 : (Jvm.Cond.privateMethod ({ cls := "ThreeSizes", name := "rowIn", desc := "(I)Ljava/lang/Object;" } : Jvm.MethodName)) ∈ lw_tbl := lw_at lw_m2 80 rfl
theorem q386 : (Jvm.Cond.instanceMethod ({ cls := "ThreeSizes", name := "rowIn", desc := "(I)Ljava/lang/Object;" } : Jvm.MethodName)) ∈ lw_all := lw_g (lw_at lw_m2 81 rfl) rfl
theorem q387 : (Jvm.Cond.code ({ cls := "ThreeSizes", name := "rowIn", desc := "(I)Ljava/lang/Object;" } : Jvm.MethodName) prog_1_method_19_code (3 : Nat) (Option.some (Jvm.ClassFile.FieldType.object "java/lang/Object"))) ∈ lw_all := lw_g (lw_at lw_m2 82 rfl) rfl
theorem q388 : (Jvm.Cond.classLink "ThreeSizes" (120 : Nat) "ThreeSizes$Rule") ∈ lw_all := lw_g (lw_at lw_m2 83 rfl) rfl
theorem q397 : (Jvm.Cond.methodLink "ThreeSizes" (124 : Nat) ({ cls := "ThreeSizes$Refused", name := "<init>", desc := "(I)V" } : Jvm.MethodName)) ∈ lw_all := lw_g (lw_at lw_m2 92 rfl) rfl
theorem q410 : (Jvm.Cond.fieldLink "ThreeSizes" (133 : Nat) "ThreeSizes$Refused" "by" "I") ∈ lw_all := lw_g (lw_at lw_m2 105 rfl) rfl
theorem q415 : (Jvm.Cond.methodLink "ThreeSizes" (129 : Nat) ({ cls := "ThreeSizes", name := "puts", desc := "(Ljava/lang/Object;IJ)V" } : Jvm.MethodName)) ∈ lw_all := lw_g (lw_at lw_m2 110 rfl) rfl
theorem q416 : (Jvm.Cond.static ({ cls := "ThreeSizes", name := "puts", desc := "(Ljava/lang/Object;IJ)V" } : Jvm.MethodName)) ∈ lw_all := lw_g (lw_at lw_m2 111 rfl) rfl
theorem q417 : (Jvm.Cond.code ({ cls := "ThreeSizes", name := "puts", desc := "(Ljava/lang/Object;IJ)V" } : Jvm.MethodName) prog_1_method_17_code (4 : Nat) (Option.none : Option Jvm.ClassFile.FieldType)) ∈ lw_all := lw_g (lw_at lw_m2 112 rfl) rfl
theorem q418 : (Jvm.Cond.methodLink "ThreeSizes" (100 : Nat) ({ cls := "ThreeSizes", name := "sortOf", desc := "(Ljava/lang/Object;)I" } : Jvm.MethodName)) ∈ lw_all := lw_g (lw_at lw_m2 113 rfl) rfl
theorem q419 : (Jvm.Cond.static ({ cls := "ThreeSizes", name := "sortOf", desc := "(Ljava/lang/Object;)I" } : Jvm.MethodName)) ∈ lw_all := lw_g (lw_at lw_m2 114 rfl) rfl
theorem q420 : (Jvm.Cond.code ({ cls := "ThreeSizes", name := "sortOf", desc := "(Ljava/lang/Object;)I" } : Jvm.MethodName) prog_1_method_15_code (1 : Nat) (Option.some Jvm.ClassFile.FieldType.int)) ∈ lw_all := lw_g (lw_at lw_m2 115 rfl) rfl
theorem q421 : (Jvm.Cond.classLink "ThreeSizes" (93 : Nat) "[B") ∈ lw_all := lw_g (lw_at lw_m2 116 rfl) rfl
theorem q422 : (Jvm.Cond.classLink "ThreeSizes" (95 : Nat) "[S") ∈ lw_all := lw_g (lw_at lw_m2 117 rfl) rfl
theorem q423 : (Jvm.Cond.classLink "ThreeSizes" (97 : Nat) "[I") ∈ lw_all := lw_g (lw_at lw_m2 118 rfl) rfl
theorem q424 : (Jvm.Cond.classLink "ThreeSizes" (98 : Nat) "[J") ∈ lw_all := lw_g (lw_at lw_m2 119 rfl) rfl
theorem q425 : (Jvm.Cond.classLink "ThreeSizes" (104 : Nat) "[Z") ∈ lw_all := lw_g (lw_at lw_m2 120 rfl) rfl
theorem q427 : (Jvm.Cond.instanceMethod ({ cls := "ThreeSizes", name := "copy", desc := "(IIIII)I" } : Jvm.MethodName)) ∈ lw_all := lw_g (lw_at lw_m2 122 rfl) rfl
theorem q428 : (Jvm.Cond.selects "ThreeSizes" ({ cls := "ThreeSizes", name := "copy", desc := "(IIIII)I" } : Jvm.MethodName) ({ cls := "ThreeSizes", name := "copy", desc := "(IIIII)I" } : Jvm.MethodName)) ∈ lw_all := lw_g (lw_at lw_m2 123 rfl) rfl
theorem q429 : (Jvm.Cond.codeWith ({ cls := "ThreeSizes", name := "copy", desc := "(IIIII)I" } : Jvm.MethodName) prog_1_method_21_code (9 : Nat) (Option.some Jvm.ClassFile.FieldType.int) [((66 : Nat), (80 : Nat), (81 : Nat), (144 : Nat)), ((66 : Nat), (80 : Nat), (90 : Nat), (146 : Nat)), ((66 : Nat), (80 : Nat), (99 : Nat), (148 : Nat))]) ∈ lw_all := lw_g (lw_at lw_m2 124 rfl) rfl
theorem q430 : (Jvm.Cond.classLink "ThreeSizes" (144 : Nat) "java/lang/NullPointerException") ∈ lw_all := lw_g (lw_at lw_m2 125 rfl) rfl
theorem q455 : (Jvm.Cond.classLink "ThreeSizes" (146 : Nat) "java/lang/ArrayStoreException") ∈ lw_all := lw_g (lw_at lw_m2 150 rfl) rfl
theorem q469 : (Jvm.Cond.classLink "ThreeSizes" (148 : Nat) "java/lang/IndexOutOfBoundsException") ∈ lw_all := lw_g (lw_at lw_m2 164 rfl) rfl
theorem q470 : (Jvm.Cond.methodLink "ThreeSizes" (138 : Nat) ({ cls := "java/lang/System", name := "arraycopy", desc := "(Ljava/lang/Object;ILjava/lang/Object;II)V" } : Jvm.MethodName)) ∈ lw_all := lw_g (lw_at lw_m2 165 rfl) rfl
theorem q474 : (Jvm.Cond.instanceMethod ({ cls := "ThreeSizes", name := "element", desc := "(II)J" } : Jvm.MethodName)) ∈ lw_all := lw_g (lw_at lw_m2 169 rfl) rfl
theorem q475 : (Jvm.Cond.selects "ThreeSizes" ({ cls := "ThreeSizes", name := "element", desc := "(II)J" } : Jvm.MethodName) ({ cls := "ThreeSizes", name := "element", desc := "(II)J" } : Jvm.MethodName)) ∈ lw_all := lw_g (lw_at lw_m2 170 rfl) rfl
theorem q476 : (Jvm.Cond.codeWith ({ cls := "ThreeSizes", name := "element", desc := "(II)J" } : Jvm.MethodName) prog_1_method_22_code (4 : Nat) (Option.some Jvm.ClassFile.FieldType.long) [((9 : Nat), (18 : Nat), (19 : Nat), (122 : Nat)), ((9 : Nat), (18 : Nat), (22 : Nat), (136 : Nat))]) ∈ lw_all := lw_g (lw_at lw_m2 171 rfl) rfl
theorem q477 : (Jvm.Cond.methodLink "ThreeSizes" (150 : Nat) ({ cls := "ThreeSizes", name := "elementOf", desc := "(Ljava/lang/Object;I)J" } : Jvm.MethodName)) ∈ lw_all := lw_g (lw_at lw_m2 172 rfl) rfl
theorem q478 : (Jvm.Cond.static ({ cls := "ThreeSizes", name := "elementOf", desc := "(Ljava/lang/Object;I)J" } : Jvm.MethodName)) ∈ lw_all := lw_g (lw_at lw_m2 173 rfl) rfl
theorem q479 : (Jvm.Cond.code ({ cls := "ThreeSizes", name := "elementOf", desc := "(Ljava/lang/Object;I)J" } : Jvm.MethodName) prog_1_method_16_code (2 : Nat) (Option.some Jvm.ClassFile.FieldType.long)) ∈ lw_all := lw_g (lw_at lw_m2 174 rfl) rfl
theorem q481 : (Jvm.Cond.instanceMethod ({ cls := "ThreeSizes", name := "holds", desc := "(I)I" } : Jvm.MethodName)) ∈ lw_all := lw_g (lw_at lw_m2 176 rfl) rfl
theorem q482 : (Jvm.Cond.selects "ThreeSizes" ({ cls := "ThreeSizes", name := "holds", desc := "(I)I" } : Jvm.MethodName) ({ cls := "ThreeSizes", name := "holds", desc := "(I)I" } : Jvm.MethodName)) ∈ lw_all := lw_g (lw_at lw_m2 177 rfl) rfl
theorem q483 : (Jvm.Cond.code ({ cls := "ThreeSizes", name := "holds", desc := "(I)I" } : Jvm.MethodName) prog_1_method_23_code (3 : Nat) (Option.some Jvm.ClassFile.FieldType.int)) ∈ lw_all := lw_g (lw_at lw_m2 178 rfl) rfl
theorem q484 : (Jvm.Cond.methodLink "ThreeSizes" (154 : Nat) ({ cls := "ThreeSizes$Rule", name := "kind", desc := "()I" } : Jvm.MethodName)) ∈ lw_all := lw_g (lw_at lw_m2 179 rfl) rfl
theorem q506 : (Jvm.Cond.instanceMethod ({ cls := "ThreeSizes", name := "rule", desc := "(III)I" } : Jvm.MethodName)) ∈ lw_all := lw_g (lw_at lw_m2 201 rfl) rfl
theorem q507 : (Jvm.Cond.selects "ThreeSizes" ({ cls := "ThreeSizes", name := "rule", desc := "(III)I" } : Jvm.MethodName) ({ cls := "ThreeSizes", name := "rule", desc := "(III)I" } : Jvm.MethodName)) ∈ lw_all := lw_g (lw_at lw_m2 202 rfl) rfl
theorem q508 : (Jvm.Cond.code ({ cls := "ThreeSizes", name := "rule", desc := "(III)I" } : Jvm.MethodName) prog_1_method_24_code (4 : Nat) (Option.some Jvm.ClassFile.FieldType.int)) ∈ lw_all := lw_g (lw_at lw_m2 203 rfl) rfl
theorem q509 : (Jvm.Cond.methodLink "ThreeSizes" (157 : Nat) ({ cls := "ThreeSizes", name := "ruleOf", desc := "(II)LThreeSizes$Rule;" } : Jvm.MethodName)) ∈ lw_all := lw_g (lw_at lw_m2 204 rfl) rfl
theorem q510 : (Jvm.Cond.static ({ cls := "ThreeSizes", name := "ruleOf", desc := "(II)LThreeSizes$Rule;" } : Jvm.MethodName)) ∈ lw_all := lw_g (lw_at lw_m2 205 rfl) rfl
theorem q511 : (Jvm.Cond.code ({ cls := "ThreeSizes", name := "ruleOf", desc := "(II)LThreeSizes$Rule;" } : Jvm.MethodName) prog_1_method_4_code (2 : Nat) (Option.some (Jvm.ClassFile.FieldType.object "ThreeSizes$Rule"))) ∈ lw_all := lw_g (lw_at lw_m2 206 rfl) rfl
theorem q512 : (Jvm.Cond.classLink "ThreeSizes" (7 : Nat) "ThreeSizes$Least") ∈ lw_all := lw_g (lw_at lw_m2 207 rfl) rfl
theorem q514 : (Jvm.Cond.methodLink "ThreeSizes" (9 : Nat) ({ cls := "ThreeSizes$Least", name := "<init>", desc := "(I)V" } : Jvm.MethodName)) ∈ lw_all := lw_g (lw_at lw_m2 209 rfl) rfl
theorem q528 : (Jvm.Cond.fieldLink "ThreeSizes" (161 : Nat) "ThreeSizes$Rule" "a" "I") ∈ lw_all := lw_g (lw_at lw_m2 223 rfl) rfl
theorem q532 : (Jvm.Cond.classLink "ThreeSizes" (13 : Nat) "ThreeSizes$Keep") ∈ lw_all := lw_g (lw_at lw_m2 227 rfl) rfl
theorem q534 : (Jvm.Cond.methodLink "ThreeSizes" (15 : Nat) ({ cls := "ThreeSizes$Keep", name := "<init>", desc := "(I)V" } : Jvm.MethodName)) ∈ lw_all := lw_g (lw_at lw_m2 229 rfl) rfl
theorem q540 : (Jvm.Cond.classLink "ThreeSizes" (16 : Nat) "ThreeSizes$Some") ∈ lw_all := lw_g (lw_at lw_m2 235 rfl) rfl
theorem q542 : (Jvm.Cond.methodLink "ThreeSizes" (18 : Nat) ({ cls := "ThreeSizes$Some", name := "<init>", desc := "(I)V" } : Jvm.MethodName)) ∈ lw_all := lw_g (lw_at lw_m2 237 rfl) rfl
theorem q548 : (Jvm.Cond.classLink "ThreeSizes" (19 : Nat) "ThreeSizes$Great") ∈ lw_all := lw_g (lw_at lw_m3 3 rfl) rfl
theorem q550 : (Jvm.Cond.methodLink "ThreeSizes" (21 : Nat) ({ cls := "ThreeSizes$Great", name := "<init>", desc := "(I)V" } : Jvm.MethodName)) ∈ lw_all := lw_g (lw_at lw_m3 5 rfl) rfl
theorem q556 : (Jvm.Cond.classLink "ThreeSizes" (22 : Nat) "ThreeSizes$Even") ∈ lw_all := lw_g (lw_at lw_m3 11 rfl) rfl
theorem q558 : (Jvm.Cond.methodLink "ThreeSizes" (24 : Nat) ({ cls := "ThreeSizes$Even", name := "<init>", desc := "(I)V" } : Jvm.MethodName)) ∈ lw_all := lw_g (lw_at lw_m3 13 rfl) rfl
theorem q564 : (Jvm.Cond.classLink "ThreeSizes" (25 : Nat) "ThreeSizes$Wise") ∈ lw_all := lw_g (lw_at lw_m3 19 rfl) rfl
theorem q566 : (Jvm.Cond.methodLink "ThreeSizes" (27 : Nat) ({ cls := "ThreeSizes$Wise", name := "<init>", desc := "(I)V" } : Jvm.MethodName)) ∈ lw_all := lw_g (lw_at lw_m3 21 rfl) rfl
theorem q576 : (Jvm.Cond.instanceMethod ({ cls := "ThreeSizes", name := "says", desc := "(II)I" } : Jvm.MethodName)) ∈ lw_all := lw_g (lw_at lw_m3 31 rfl) rfl
theorem q577 : (Jvm.Cond.selects "ThreeSizes" ({ cls := "ThreeSizes", name := "says", desc := "(II)I" } : Jvm.MethodName) ({ cls := "ThreeSizes", name := "says", desc := "(II)I" } : Jvm.MethodName)) ∈ lw_all := lw_g (lw_at lw_m3 32 rfl) rfl
theorem q578 : (Jvm.Cond.codeWith ({ cls := "ThreeSizes", name := "says", desc := "(II)I" } : Jvm.MethodName) prog_1_method_26_code (5 : Nat) (Option.some Jvm.ClassFile.FieldType.int) [((34 : Nat), (79 : Nat), (170 : Nat), (173 : Nat)), ((80 : Nat), (94 : Nat), (170 : Nat), (173 : Nat)), ((95 : Nat), (109 : Nat), (170 : Nat), (173 : Nat)), ((110 : Nat), (124 : Nat), (170 : Nat), (173 : Nat)), ((125 : Nat), (139 : Nat), (170 : Nat), (173 : Nat)), ((140 : Nat), (154 : Nat), (170 : Nat), (173 : Nat)), ((155 : Nat), (169 : Nat), (170 : Nat), (173 : Nat)), ((34 : Nat), (79 : Nat), (179 : Nat), (144 : Nat)), ((80 : Nat), (94 : Nat), (179 : Nat), (144 : Nat)), ((95 : Nat), (109 : Nat), (179 : Nat), (144 : Nat)), ((110 : Nat), (124 : Nat), (179 : Nat), (144 : Nat)), ((125 : Nat), (139 : Nat), (179 : Nat), (144 : Nat)), ((140 : Nat), (154 : Nat), (179 : Nat), (144 : Nat)), ((155 : Nat), (169 : Nat), (179 : Nat), (144 : Nat)), ((34 : Nat), (79 : Nat), (188 : Nat), (122 : Nat)), ((80 : Nat), (94 : Nat), (188 : Nat), (122 : Nat)), ((95 : Nat), (109 : Nat), (188 : Nat), (122 : Nat)), ((110 : Nat), (124 : Nat), (188 : Nat), (122 : Nat)), ((125 : Nat), (139 : Nat), (188 : Nat), (122 : Nat)), ((140 : Nat), (154 : Nat), (188 : Nat), (122 : Nat)), ((155 : Nat), (169 : Nat), (188 : Nat), (122 : Nat))]) ∈ lw_all := lw_g (lw_at lw_m3 33 rfl) rfl
theorem q579 : (Jvm.Cond.classLink "ThreeSizes" (173 : Nat) "java/lang/ClassCastException") ∈ lw_all := lw_g (lw_at lw_m3 34 rfl) rfl
theorem q593 : (Jvm.Cond.methodLink "ThreeSizes" (164 : Nat) ({ cls := "ThreeSizes$Least", name := "says", desc := "(LThreeSizes$Wall;)I" } : Jvm.MethodName)) ∈ lw_all := lw_g (lw_at lw_m3 48 rfl) rfl
theorem q661 : (Jvm.Cond.static ({ cls := "ThreeSizes", name := "freeOf", desc := "(II)I" } : Jvm.MethodName)) ∈ lw_all := lw_g (lw_at lw_m3 116 rfl) rfl
theorem q662 : (Jvm.Cond.code ({ cls := "ThreeSizes", name := "freeOf", desc := "(II)I" } : Jvm.MethodName) prog_1_method_3_code (2 : Nat) (Option.some Jvm.ClassFile.FieldType.int)) ∈ lw_all := lw_g (lw_at lw_m3 117 rfl) rfl
theorem q663 : (Jvm.Cond.methodLink "ThreeSizes" (1 : Nat) ({ cls := "ThreeSizes", name := "step", desc := "(I)I" } : Jvm.MethodName)) ∈ lw_all := lw_g (lw_at lw_m3 118 rfl) rfl
theorem q664 : (Jvm.Cond.static ({ cls := "ThreeSizes", name := "step", desc := "(I)I" } : Jvm.MethodName)) ∈ lw_all := lw_g (lw_at lw_m3 119 rfl) rfl
theorem q665 : (Jvm.Cond.code ({ cls := "ThreeSizes", name := "step", desc := "(I)I" } : Jvm.MethodName) prog_1_method_2_code (1 : Nat) (Option.some Jvm.ClassFile.FieldType.int)) ∈ lw_all := lw_g (lw_at lw_m3 120 rfl) rfl
theorem q681 : (Jvm.Cond.static ({ cls := "ThreeSizes", name := "bestOf", desc := "(LThreeSizes$Wall;II[J)I" } : Jvm.MethodName)) ∈ lw_all := lw_g (lw_at lw_m3 136 rfl) rfl
theorem q682 : (Jvm.Cond.code ({ cls := "ThreeSizes", name := "bestOf", desc := "(LThreeSizes$Wall;II[J)I" } : Jvm.MethodName) prog_1_method_5_code (6 : Nat) (Option.some Jvm.ClassFile.FieldType.int)) ∈ lw_all := lw_g (lw_at lw_m3 137 rfl) rfl
theorem q683 : (Jvm.Cond.methodLink "ThreeSizes" (28 : Nat) ({ cls := "ThreeSizes$Wall", name := "fits", desc := "(III)Z" } : Jvm.MethodName)) ∈ lw_all := lw_g (lw_at lw_m3 138 rfl) rfl
theorem q687 : (Jvm.Cond.methodLink "ThreeSizes" (34 : Nat) ({ cls := "ThreeSizes$Wall", name := "brings", desc := "(III[J)J" } : Jvm.MethodName)) ∈ lw_all := lw_g (lw_at lw_m3 142 rfl) rfl
theorem q750 : (Jvm.Cond.methodLink "ThreeSizes" (168 : Nat) ({ cls := "ThreeSizes$Keep", name := "says", desc := "(LThreeSizes$Wall;)I" } : Jvm.MethodName)) ∈ lw_all := lw_g (lw_at lw_m3 205 rfl) rfl
theorem q753 : (Jvm.Cond.methodLink "ThreeSizes" (169 : Nat) ({ cls := "ThreeSizes$Some", name := "says", desc := "(LThreeSizes$Wall;)I" } : Jvm.MethodName)) ∈ lw_all := lw_g (lw_at lw_m3 208 rfl) rfl
theorem q756 : (Jvm.Cond.methodLink "ThreeSizes" (170 : Nat) ({ cls := "ThreeSizes$Great", name := "says", desc := "(LThreeSizes$Wall;)I" } : Jvm.MethodName)) ∈ lw_all := lw_g (lw_at lw_m3 211 rfl) rfl
theorem q760 : (Jvm.Cond.methodLink "ThreeSizes" (171 : Nat) ({ cls := "ThreeSizes$Even", name := "says", desc := "(LThreeSizes$Wall;)I" } : Jvm.MethodName)) ∈ lw_all := lw_g (lw_at lw_m3 215 rfl) rfl
theorem q763 : (Jvm.Cond.methodLink "ThreeSizes" (172 : Nat) ({ cls := "ThreeSizes$Wise", name := "says", desc := "(LThreeSizes$Wall;)I" } : Jvm.MethodName)) ∈ lw_all := lw_g (lw_at lw_m3 218 rfl) rfl
theorem q768 : (Jvm.Cond.instanceMethod ({ cls := "ThreeSizes", name := "size", desc := "(III)I" } : Jvm.MethodName)) ∈ lw_all := lw_g (lw_at lw_m3 223 rfl) rfl
theorem q769 : (Jvm.Cond.selects "ThreeSizes" ({ cls := "ThreeSizes", name := "size", desc := "(III)I" } : Jvm.MethodName) ({ cls := "ThreeSizes", name := "size", desc := "(III)I" } : Jvm.MethodName)) ∈ lw_all := lw_g (lw_at lw_m3 224 rfl) rfl
theorem q770 : (Jvm.Cond.code ({ cls := "ThreeSizes", name := "size", desc := "(III)I" } : Jvm.MethodName) prog_1_method_27_code (6 : Nat) (Option.some Jvm.ClassFile.FieldType.int)) ∈ lw_all := lw_g (lw_at lw_m3 225 rfl) rfl
theorem q771 : (Jvm.Cond.methodLink "ThreeSizes" (175 : Nat) ({ cls := "ThreeSizes", name := "isSize", desc := "(I)Z" } : Jvm.MethodName)) ∈ lw_all := lw_g (lw_at lw_m3 226 rfl) rfl
theorem q772 : (Jvm.Cond.static ({ cls := "ThreeSizes", name := "isSize", desc := "(I)Z" } : Jvm.MethodName)) ∈ lw_all := lw_g (lw_at lw_m3 227 rfl) rfl
theorem q773 : (Jvm.Cond.code ({ cls := "ThreeSizes", name := "isSize", desc := "(I)Z" } : Jvm.MethodName) prog_1_method_11_code (1 : Nat) (Option.some Jvm.ClassFile.FieldType.boolean)) ∈ lw_all := lw_g (lw_at lw_m3 228 rfl) rfl
theorem q775 : (Jvm.Cond.instanceMethod ({ cls := "ThreeSizes", name := "sort", desc := "(IIII)I" } : Jvm.MethodName)) ∈ lw_all := lw_g (lw_at lw_m3 230 rfl) rfl
theorem q776 : (Jvm.Cond.selects "ThreeSizes" ({ cls := "ThreeSizes", name := "sort", desc := "(IIII)I" } : Jvm.MethodName) ({ cls := "ThreeSizes", name := "sort", desc := "(IIII)I" } : Jvm.MethodName)) ∈ lw_all := lw_g (lw_at lw_m3 231 rfl) rfl
theorem q777 : (Jvm.Cond.code ({ cls := "ThreeSizes", name := "sort", desc := "(IIII)I" } : Jvm.MethodName) prog_1_method_29_code (5 : Nat) (Option.some Jvm.ClassFile.FieldType.int)) ∈ lw_all := lw_g (lw_at lw_m3 232 rfl) rfl
theorem q778 : (Jvm.Cond.methodLink "ThreeSizes" (187 : Nat) ({ cls := "ThreeSizes", name := "mayBe", desc := "(IIII)Z" } : Jvm.MethodName)) ∈ lw_all := lw_g (lw_at lw_m3 233 rfl) rfl
theorem q779 : (Jvm.Cond.static ({ cls := "ThreeSizes", name := "mayBe", desc := "(IIII)Z" } : Jvm.MethodName)) ∈ lw_all := lw_g (lw_at lw_m3 234 rfl) rfl
theorem q780 : (Jvm.Cond.code ({ cls := "ThreeSizes", name := "mayBe", desc := "(IIII)Z" } : Jvm.MethodName) prog_1_method_28_code (4 : Nat) (Option.some Jvm.ClassFile.FieldType.boolean)) ∈ lw_all := lw_g (lw_at lw_m3 235 rfl) rfl
theorem q781 : (Jvm.Cond.methodLink "ThreeSizes" (191 : Nat) ({ cls := "ThreeSizes$Wall", name := "all", desc := "()I" } : Jvm.MethodName)) ∈ lw_all := lw_g (lw_at lw_m3 236 rfl) rfl
theorem q782 : (Jvm.Cond.methodLink "ThreeSizes" (194 : Nat) ({ cls := "ThreeSizes$Wall", name := "adds", desc := "(IIII)V" } : Jvm.MethodName)) ∈ lw_all := lw_g (lw_at lw_m3 237 rfl) rfl
theorem q787 : (Jvm.Cond.instanceMethod ({ cls := "ThreeSizes", name := "sorts", desc := "(II)I" } : Jvm.MethodName)) ∈ lw_all := lw_g (lw_at lw_m4 2 rfl) rfl
theorem q788 : (Jvm.Cond.selects "ThreeSizes" ({ cls := "ThreeSizes", name := "sorts", desc := "(II)I" } : Jvm.MethodName) ({ cls := "ThreeSizes", name := "sorts", desc := "(II)I" } : Jvm.MethodName)) ∈ lw_all := lw_g (lw_at lw_m4 3 rfl) rfl
theorem q789 : (Jvm.Cond.codeWith ({ cls := "ThreeSizes", name := "sorts", desc := "(II)I" } : Jvm.MethodName) prog_1_method_31_code (7 : Nat) (Option.some Jvm.ClassFile.FieldType.int) [((14 : Nat), (36 : Nat), (184 : Nat), (122 : Nat)), ((37 : Nat), (139 : Nat), (184 : Nat), (122 : Nat)), ((140 : Nat), (183 : Nat), (184 : Nat), (122 : Nat)), ((14 : Nat), (36 : Nat), (194 : Nat), (136 : Nat)), ((37 : Nat), (139 : Nat), (194 : Nat), (136 : Nat)), ((140 : Nat), (183 : Nat), (194 : Nat), (136 : Nat))]) ∈ lw_all := lw_g (lw_at lw_m4 4 rfl) rfl
theorem q790 : (Jvm.Cond.methodLink "ThreeSizes" (200 : Nat) ({ cls := "ThreeSizes", name := "part", desc := "(Ljava/lang/Object;I)I" } : Jvm.MethodName)) ∈ lw_all := lw_g (lw_at lw_m4 5 rfl) rfl
theorem q791 : (Jvm.Cond.static ({ cls := "ThreeSizes", name := "part", desc := "(Ljava/lang/Object;I)I" } : Jvm.MethodName)) ∈ lw_all := lw_g (lw_at lw_m4 6 rfl) rfl
theorem q792 : (Jvm.Cond.code ({ cls := "ThreeSizes", name := "part", desc := "(Ljava/lang/Object;I)I" } : Jvm.MethodName) prog_1_method_30_code (4 : Nat) (Option.some Jvm.ClassFile.FieldType.int)) ∈ lw_all := lw_g (lw_at lw_m4 7 rfl) rfl
theorem q793 : (Jvm.Cond.constantLong "ThreeSizes" (198 : Nat) (100 : Int64)) ∈ lw_all := lw_g (lw_at lw_m4 8 rfl) rfl
theorem q795 : (Jvm.Cond.instanceMethod ({ cls := "ThreeSizes", name := "sortOf", desc := "(II)I" } : Jvm.MethodName)) ∈ lw_all := lw_g (lw_at lw_m4 10 rfl) rfl
theorem q796 : (Jvm.Cond.selects "ThreeSizes" ({ cls := "ThreeSizes", name := "sortOf", desc := "(II)I" } : Jvm.MethodName) ({ cls := "ThreeSizes", name := "sortOf", desc := "(II)I" } : Jvm.MethodName)) ∈ lw_all := lw_g (lw_at lw_m4 11 rfl) rfl
theorem q797 : (Jvm.Cond.code ({ cls := "ThreeSizes", name := "sortOf", desc := "(II)I" } : Jvm.MethodName) prog_1_method_32_code (3 : Nat) (Option.some Jvm.ClassFile.FieldType.int)) ∈ lw_all := lw_g (lw_at lw_m4 12 rfl) rfl
theorem q798 : (Jvm.Cond.methodLink "ThreeSizes" (204 : Nat) ({ cls := "ThreeSizes", name := "isSort", desc := "(I)Z" } : Jvm.MethodName)) ∈ lw_all := lw_g (lw_at lw_m4 13 rfl) rfl
theorem q799 : (Jvm.Cond.privateMethod ({ cls := "ThreeSizes", name := "isSort", desc := "(I)Z" } : Jvm.MethodName)) ∈ lw_tbl := lw_at lw_m4 14 rfl
theorem q800 : (Jvm.Cond.instanceMethod ({ cls := "ThreeSizes", name := "isSort", desc := "(I)Z" } : Jvm.MethodName)) ∈ lw_all := lw_g (lw_at lw_m4 15 rfl) rfl
theorem q801 : (Jvm.Cond.code ({ cls := "ThreeSizes", name := "isSort", desc := "(I)Z" } : Jvm.MethodName) prog_1_method_12_code (2 : Nat) (Option.some Jvm.ClassFile.FieldType.boolean)) ∈ lw_all := lw_g (lw_at lw_m4 16 rfl) rfl
theorem q803 : (Jvm.Cond.instanceMethod ({ cls := "ThreeSizes", name := "ask", desc := "(II)I" } : Jvm.MethodName)) ∈ lw_all := lw_g (lw_at lw_m4 18 rfl) rfl
theorem q804 : (Jvm.Cond.selects "ThreeSizes" ({ cls := "ThreeSizes", name := "ask", desc := "(II)I" } : Jvm.MethodName) ({ cls := "ThreeSizes", name := "ask", desc := "(II)I" } : Jvm.MethodName)) ∈ lw_all := lw_g (lw_at lw_m4 19 rfl) rfl
theorem q805 : (Jvm.Cond.code ({ cls := "ThreeSizes", name := "ask", desc := "(II)I" } : Jvm.MethodName) prog_1_method_33_code (5 : Nat) (Option.some Jvm.ClassFile.FieldType.int)) ∈ lw_all := lw_g (lw_at lw_m4 20 rfl) rfl
theorem q807 : (Jvm.Cond.instanceMethod ({ cls := "ThreeSizes", name := "feed", desc := "(II)I" } : Jvm.MethodName)) ∈ lw_all := lw_g (lw_at lw_m4 22 rfl) rfl
theorem q808 : (Jvm.Cond.selects "ThreeSizes" ({ cls := "ThreeSizes", name := "feed", desc := "(II)I" } : Jvm.MethodName) ({ cls := "ThreeSizes", name := "feed", desc := "(II)I" } : Jvm.MethodName)) ∈ lw_all := lw_g (lw_at lw_m4 23 rfl) rfl
theorem q809 : (Jvm.Cond.code ({ cls := "ThreeSizes", name := "feed", desc := "(II)I" } : Jvm.MethodName) prog_1_method_34_code (4 : Nat) (Option.some Jvm.ClassFile.FieldType.int)) ∈ lw_all := lw_g (lw_at lw_m4 24 rfl) rfl
theorem q811 : (Jvm.Cond.instanceMethod ({ cls := "ThreeSizes", name := "wipe", desc := "()I" } : Jvm.MethodName)) ∈ lw_all := lw_g (lw_at lw_m4 26 rfl) rfl
theorem q812 : (Jvm.Cond.selects "ThreeSizes" ({ cls := "ThreeSizes", name := "wipe", desc := "()I" } : Jvm.MethodName) ({ cls := "ThreeSizes", name := "wipe", desc := "()I" } : Jvm.MethodName)) ∈ lw_all := lw_g (lw_at lw_m4 27 rfl) rfl
theorem q813 : (Jvm.Cond.code ({ cls := "ThreeSizes", name := "wipe", desc := "()I" } : Jvm.MethodName) prog_1_method_35_code (2 : Nat) (Option.some Jvm.ClassFile.FieldType.int)) ∈ lw_all := lw_g (lw_at lw_m4 28 rfl) rfl
theorem q815 : (Jvm.Cond.instanceMethod ({ cls := "ThreeSizes", name := "wall", desc := "()I" } : Jvm.MethodName)) ∈ lw_all := lw_g (lw_at lw_m4 30 rfl) rfl
theorem q816 : (Jvm.Cond.selects "ThreeSizes" ({ cls := "ThreeSizes", name := "wall", desc := "()I" } : Jvm.MethodName) ({ cls := "ThreeSizes", name := "wall", desc := "()I" } : Jvm.MethodName)) ∈ lw_all := lw_g (lw_at lw_m4 31 rfl) rfl
theorem q817 : (Jvm.Cond.codeWith ({ cls := "ThreeSizes", name := "wall", desc := "()I" } : Jvm.MethodName) prog_1_method_36_code (5 : Nat) (Option.some Jvm.ClassFile.FieldType.int) [((0 : Nat), (44 : Nat), (51 : Nat), (241 : Nat)), ((0 : Nat), (44 : Nat), (74 : Nat), (0 : Nat)), ((51 : Nat), (67 : Nat), (74 : Nat), (0 : Nat)), ((74 : Nat), (76 : Nat), (74 : Nat), (0 : Nat))]) ∈ lw_all := lw_g (lw_at lw_m4 32 rfl) rfl
theorem q818 : (Jvm.Cond.classLink "ThreeSizes" (241 : Nat) "ThreeSizes$Fault") ∈ lw_all := lw_g (lw_at lw_m4 33 rfl) rfl
theorem q819 : (Jvm.Cond.classLink "ThreeSizes" (228 : Nat) "ThreeSizes$Reader") ∈ lw_all := lw_g (lw_at lw_m4 34 rfl) rfl
theorem q821 : (Jvm.Cond.methodLink "ThreeSizes" (230 : Nat) ({ cls := "ThreeSizes$Wall", name := "copied", desc := "()LThreeSizes$Wall;" } : Jvm.MethodName)) ∈ lw_all := lw_g (lw_at lw_m4 36 rfl) rfl
theorem q828 : (Jvm.Cond.methodLink "ThreeSizes" (234 : Nat) ({ cls := "ThreeSizes$Reader", name := "<init>", desc := "([IILThreeSizes$Wall;)V" } : Jvm.MethodName)) ∈ lw_all := lw_g (lw_at lw_m4 43 rfl) rfl
theorem q835 : (Jvm.Cond.fieldLink "ThreeSizes" (240 : Nat) "ThreeSizes$Reader" "wall" "LThreeSizes$Wall;") ∈ lw_all := lw_g (lw_at lw_m4 50 rfl) rfl
theorem q855 : (Jvm.Cond.methodLink "ThreeSizes" (237 : Nat) ({ cls := "ThreeSizes$Reader", name := "read", desc := "()I" } : Jvm.MethodName)) ∈ lw_all := lw_g (lw_at lw_m4 70 rfl) rfl
theorem q1076 : (Jvm.Cond.fieldLink "ThreeSizes" (243 : Nat) "ThreeSizes$Fault" "place" "I") ∈ lw_all := lw_g (lw_at lw_m5 51 rfl) rfl
theorem q1169 : (Jvm.Cond.instanceMethod ({ cls := "ThreeSizes", name := "state", desc := "(I)I" } : Jvm.MethodName)) ∈ lw_all := lw_g (lw_at lw_m5 144 rfl) rfl
theorem q1170 : (Jvm.Cond.selects "ThreeSizes" ({ cls := "ThreeSizes", name := "state", desc := "(I)I" } : Jvm.MethodName) ({ cls := "ThreeSizes", name := "state", desc := "(I)I" } : Jvm.MethodName)) ∈ lw_all := lw_g (lw_at lw_m5 145 rfl) rfl
theorem q1171 : (Jvm.Cond.code ({ cls := "ThreeSizes", name := "state", desc := "(I)I" } : Jvm.MethodName) prog_1_method_37_code (3 : Nat) (Option.some Jvm.ClassFile.FieldType.int)) ∈ lw_all := lw_g (lw_at lw_m5 146 rfl) rfl
theorem q1172 : (Jvm.Cond.methodLink "ThreeSizes" (246 : Nat) ({ cls := "ThreeSizes$Wall", name := "free", desc := "(I)I" } : Jvm.MethodName)) ∈ lw_all := lw_g (lw_at lw_m5 147 rfl) rfl
theorem q1173 : (Jvm.Cond.methodLink "ThreeSizes" (47 : Nat) ({ cls := "ThreeSizes$Wall", name := "state", desc := "()I" } : Jvm.MethodName)) ∈ lw_all := lw_g (lw_at lw_m5 148 rfl) rfl
theorem q1175 : (Jvm.Cond.instanceMethod ({ cls := "ThreeSizes", name := "gets", desc := "(III)I" } : Jvm.MethodName)) ∈ lw_all := lw_g (lw_at lw_m5 150 rfl) rfl
theorem q1176 : (Jvm.Cond.selects "ThreeSizes" ({ cls := "ThreeSizes", name := "gets", desc := "(III)I" } : Jvm.MethodName) ({ cls := "ThreeSizes", name := "gets", desc := "(III)I" } : Jvm.MethodName)) ∈ lw_all := lw_g (lw_at lw_m5 151 rfl) rfl
theorem q1177 : (Jvm.Cond.codeWith ({ cls := "ThreeSizes", name := "gets", desc := "(III)I" } : Jvm.MethodName) prog_1_method_38_code (5 : Nat) (Option.some Jvm.ClassFile.FieldType.int) [((0 : Nat), (60 : Nat), (61 : Nat), (122 : Nat))]) ∈ lw_all := lw_g (lw_at lw_m5 152 rfl) rfl
theorem q1178 : (Jvm.Cond.methodLink "ThreeSizes" (249 : Nat) ({ cls := "ThreeSizes$Wall", name := "isState", desc := "(I)Z" } : Jvm.MethodName)) ∈ lw_all := lw_g (lw_at lw_m5 153 rfl) rfl
theorem q1179 : (Jvm.Cond.methodLink "ThreeSizes" (252 : Nat) ({ cls := "ThreeSizes", name := "ruleFor", desc := "(ZI)LThreeSizes$Rule;" } : Jvm.MethodName)) ∈ lw_all := lw_g (lw_at lw_m5 154 rfl) rfl
theorem q1180 : (Jvm.Cond.privateMethod ({ cls := "ThreeSizes", name := "ruleFor", desc := "(ZI)LThreeSizes$Rule;" } : Jvm.MethodName)) ∈ lw_tbl := lw_at lw_m5 155 rfl
theorem q1181 : (Jvm.Cond.instanceMethod ({ cls := "ThreeSizes", name := "ruleFor", desc := "(ZI)LThreeSizes$Rule;" } : Jvm.MethodName)) ∈ lw_all := lw_g (lw_at lw_m5 156 rfl) rfl
theorem q1182 : (Jvm.Cond.code ({ cls := "ThreeSizes", name := "ruleFor", desc := "(ZI)LThreeSizes$Rule;" } : Jvm.MethodName) prog_1_method_25_code (4 : Nat) (Option.some (Jvm.ClassFile.FieldType.object "ThreeSizes$Rule"))) ∈ lw_all := lw_g (lw_at lw_m5 157 rfl) rfl
theorem q1183 : (Jvm.Cond.methodLink "ThreeSizes" (256 : Nat) ({ cls := "ThreeSizes$Rule", name := "learns", desc := "(LThreeSizes$Wall;)V" } : Jvm.MethodName)) ∈ lw_all := lw_g (lw_at lw_m5 158 rfl) rfl
theorem q1185 : (Jvm.Cond.instanceMethod ({ cls := "ThreeSizes", name := "lost", desc := "(I)J" } : Jvm.MethodName)) ∈ lw_all := lw_g (lw_at lw_m5 160 rfl) rfl
theorem q1186 : (Jvm.Cond.selects "ThreeSizes" ({ cls := "ThreeSizes", name := "lost", desc := "(I)J" } : Jvm.MethodName) ({ cls := "ThreeSizes", name := "lost", desc := "(I)J" } : Jvm.MethodName)) ∈ lw_all := lw_g (lw_at lw_m5 161 rfl) rfl
theorem q1187 : (Jvm.Cond.code ({ cls := "ThreeSizes", name := "lost", desc := "(I)J" } : Jvm.MethodName) prog_1_method_39_code (2 : Nat) (Option.some Jvm.ClassFile.FieldType.long)) ∈ lw_all := lw_g (lw_at lw_m5 162 rfl) rfl
theorem q1188 : (Jvm.Cond.methodLink "ThreeSizes" (264 : Nat) ({ cls := "ThreeSizes$Wall", name := "lost", desc := "(I)J" } : Jvm.MethodName)) ∈ lw_all := lw_g (lw_at lw_m5 163 rfl) rfl
theorem q1189 : (Jvm.Cond.methodLink "ThreeSizes" (268 : Nat) ({ cls := "ThreeSizes", name := "noDeep", desc := "(I)J" } : Jvm.MethodName)) ∈ lw_all := lw_g (lw_at lw_m5 164 rfl) rfl
theorem q1190 : (Jvm.Cond.privateMethod ({ cls := "ThreeSizes", name := "noDeep", desc := "(I)J" } : Jvm.MethodName)) ∈ lw_tbl := lw_at lw_m5 165 rfl
theorem q1191 : (Jvm.Cond.instanceMethod ({ cls := "ThreeSizes", name := "noDeep", desc := "(I)J" } : Jvm.MethodName)) ∈ lw_all := lw_g (lw_at lw_m5 166 rfl) rfl
theorem q1192 : (Jvm.Cond.code ({ cls := "ThreeSizes", name := "noDeep", desc := "(I)J" } : Jvm.MethodName) prog_1_method_9_code (2 : Nat) (Option.some Jvm.ClassFile.FieldType.long)) ∈ lw_all := lw_g (lw_at lw_m5 167 rfl) rfl
theorem q1193 : (Jvm.Cond.constantLong "ThreeSizes" (77 : Nat) (-1000000000000 : Int64)) ∈ lw_all := lw_g (lw_at lw_m5 168 rfl) rfl
theorem q1195 : (Jvm.Cond.instanceMethod ({ cls := "ThreeSizes", name := "value", desc := "(II)J" } : Jvm.MethodName)) ∈ lw_all := lw_g (lw_at lw_m5 170 rfl) rfl
theorem q1196 : (Jvm.Cond.selects "ThreeSizes" ({ cls := "ThreeSizes", name := "value", desc := "(II)J" } : Jvm.MethodName) ({ cls := "ThreeSizes", name := "value", desc := "(II)J" } : Jvm.MethodName)) ∈ lw_all := lw_g (lw_at lw_m5 171 rfl) rfl
theorem q1197 : (Jvm.Cond.codeWith ({ cls := "ThreeSizes", name := "value", desc := "(II)J" } : Jvm.MethodName) prog_1_method_41_code (4 : Nat) (Option.some Jvm.ClassFile.FieldType.long) [((0 : Nat), (14 : Nat), (15 : Nat), (122 : Nat))]) ∈ lw_all := lw_g (lw_at lw_m5 172 rfl) rfl
theorem q1198 : (Jvm.Cond.methodLink "ThreeSizes" (271 : Nat) ({ cls := "ThreeSizes", name := "isHours", desc := "(I)Z" } : Jvm.MethodName)) ∈ lw_all := lw_g (lw_at lw_m5 173 rfl) rfl
theorem q1199 : (Jvm.Cond.static ({ cls := "ThreeSizes", name := "isHours", desc := "(I)Z" } : Jvm.MethodName)) ∈ lw_all := lw_g (lw_at lw_m5 174 rfl) rfl
theorem q1200 : (Jvm.Cond.code ({ cls := "ThreeSizes", name := "isHours", desc := "(I)Z" } : Jvm.MethodName) prog_1_method_13_code (1 : Nat) (Option.some Jvm.ClassFile.FieldType.boolean)) ∈ lw_all := lw_g (lw_at lw_m5 175 rfl) rfl
theorem q1201 : (Jvm.Cond.methodLink "ThreeSizes" (274 : Nat) ({ cls := "ThreeSizes", name := "valueOf", desc := "(LThreeSizes$Rule;I)J" } : Jvm.MethodName)) ∈ lw_all := lw_g (lw_at lw_m5 176 rfl) rfl
theorem q1202 : (Jvm.Cond.privateMethod ({ cls := "ThreeSizes", name := "valueOf", desc := "(LThreeSizes$Rule;I)J" } : Jvm.MethodName)) ∈ lw_tbl := lw_at lw_m5 177 rfl
theorem q1203 : (Jvm.Cond.instanceMethod ({ cls := "ThreeSizes", name := "valueOf", desc := "(LThreeSizes$Rule;I)J" } : Jvm.MethodName)) ∈ lw_all := lw_g (lw_at lw_m5 178 rfl) rfl
theorem q1204 : (Jvm.Cond.code ({ cls := "ThreeSizes", name := "valueOf", desc := "(LThreeSizes$Rule;I)J" } : Jvm.MethodName) prog_1_method_40_code (3 : Nat) (Option.some Jvm.ClassFile.FieldType.long)) ∈ lw_all := lw_g (lw_at lw_m5 179 rfl) rfl
theorem q1205 : (Jvm.Cond.classLink "ThreeSizes" (38 : Nat) "ThreeSizes$Worths") ∈ lw_all := lw_g (lw_at lw_m5 180 rfl) rfl
theorem q1206 : (Jvm.Cond.methodLink "ThreeSizes" (40 : Nat) ({ cls := "ThreeSizes$Worths", name := "<init>", desc := "(LThreeSizes$Wall;LThreeSizes$Rule;)V" } : Jvm.MethodName)) ∈ lw_all := lw_g (lw_at lw_m5 181 rfl) rfl
theorem q1207 : (Jvm.Cond.methodLink "ThreeSizes" (43 : Nat) ({ cls := "ThreeSizes$Worths", name := "after", desc := "(I)[J" } : Jvm.MethodName)) ∈ lw_all := lw_g (lw_at lw_m5 182 rfl) rfl
theorem q1209 : (Jvm.Cond.instanceMethod ({ cls := "ThreeSizes", name := "best", desc := "(I)J" } : Jvm.MethodName)) ∈ lw_all := lw_g (lw_at lw_m5 184 rfl) rfl
theorem q1210 : (Jvm.Cond.selects "ThreeSizes" ({ cls := "ThreeSizes", name := "best", desc := "(I)J" } : Jvm.MethodName) ({ cls := "ThreeSizes", name := "best", desc := "(I)J" } : Jvm.MethodName)) ∈ lw_all := lw_g (lw_at lw_m5 185 rfl) rfl
theorem q1211 : (Jvm.Cond.code ({ cls := "ThreeSizes", name := "best", desc := "(I)J" } : Jvm.MethodName) prog_1_method_42_code (2 : Nat) (Option.some Jvm.ClassFile.FieldType.long)) ∈ lw_all := lw_g (lw_at lw_m5 186 rfl) rfl
theorem q1212 : (Jvm.Cond.methodLink "ThreeSizes" (278 : Nat) ({ cls := "ThreeSizes", name := "best", desc := "(LThreeSizes$Wall;I)J" } : Jvm.MethodName)) ∈ lw_all := lw_g (lw_at lw_m5 187 rfl) rfl
theorem q1213 : (Jvm.Cond.static ({ cls := "ThreeSizes", name := "best", desc := "(LThreeSizes$Wall;I)J" } : Jvm.MethodName)) ∈ lw_all := lw_g (lw_at lw_m5 188 rfl) rfl
theorem q1214 : (Jvm.Cond.code ({ cls := "ThreeSizes", name := "best", desc := "(LThreeSizes$Wall;I)J" } : Jvm.MethodName) prog_1_method_6_code (2 : Nat) (Option.some Jvm.ClassFile.FieldType.long)) ∈ lw_all := lw_g (lw_at lw_m5 189 rfl) rfl
theorem q1216 : (Jvm.Cond.instanceMethod ({ cls := "ThreeSizes", name := "now", desc := "(II)I" } : Jvm.MethodName)) ∈ lw_all := lw_g (lw_at lw_m5 191 rfl) rfl
theorem q1217 : (Jvm.Cond.selects "ThreeSizes" ({ cls := "ThreeSizes", name := "now", desc := "(II)I" } : Jvm.MethodName) ({ cls := "ThreeSizes", name := "now", desc := "(II)I" } : Jvm.MethodName)) ∈ lw_all := lw_g (lw_at lw_m5 192 rfl) rfl
theorem q1218 : (Jvm.Cond.code ({ cls := "ThreeSizes", name := "now", desc := "(II)I" } : Jvm.MethodName) prog_1_method_43_code (3 : Nat) (Option.some Jvm.ClassFile.FieldType.int)) ∈ lw_all := lw_g (lw_at lw_m5 193 rfl) rfl
theorem q1219 : (Jvm.Cond.methodLink "ThreeSizes" (282 : Nat) ({ cls := "ThreeSizes", name := "bestOf", desc := "(LThreeSizes$Wall;II[J)I" } : Jvm.MethodName)) ∈ lw_all := lw_g (lw_at lw_m5 194 rfl) rfl
theorem q1221 : (Jvm.Cond.instanceMethod ({ cls := "ThreeSizes", name := "gap", desc := "(II)J" } : Jvm.MethodName)) ∈ lw_all := lw_g (lw_at lw_m5 196 rfl) rfl
theorem q1222 : (Jvm.Cond.selects "ThreeSizes" ({ cls := "ThreeSizes", name := "gap", desc := "(II)J" } : Jvm.MethodName) ({ cls := "ThreeSizes", name := "gap", desc := "(II)J" } : Jvm.MethodName)) ∈ lw_all := lw_g (lw_at lw_m5 197 rfl) rfl
theorem q1223 : (Jvm.Cond.codeWith ({ cls := "ThreeSizes", name := "gap", desc := "(II)J" } : Jvm.MethodName) prog_1_method_44_code (4 : Nat) (Option.some Jvm.ClassFile.FieldType.long) [((0 : Nat), (28 : Nat), (29 : Nat), (122 : Nat))]) ∈ lw_all := lw_g (lw_at lw_m5 198 rfl) rfl
theorem q1225 : (Jvm.Cond.instanceMethod ({ cls := "ThreeSizes", name := "head", desc := "(I)I" } : Jvm.MethodName)) ∈ lw_all := lw_g (lw_at lw_m5 200 rfl) rfl
theorem q1226 : (Jvm.Cond.selects "ThreeSizes" ({ cls := "ThreeSizes", name := "head", desc := "(I)I" } : Jvm.MethodName) ({ cls := "ThreeSizes", name := "head", desc := "(I)I" } : Jvm.MethodName)) ∈ lw_all := lw_g (lw_at lw_m5 201 rfl) rfl
theorem q1227 : (Jvm.Cond.code ({ cls := "ThreeSizes", name := "head", desc := "(I)I" } : Jvm.MethodName) prog_1_method_45_code (8 : Nat) (Option.some Jvm.ClassFile.FieldType.int)) ∈ lw_all := lw_g (lw_at lw_m5 202 rfl) rfl
theorem q1229 : (Jvm.Cond.instanceMethod ({ cls := "ThreeSizes", name := "keep", desc := "(I)I" } : Jvm.MethodName)) ∈ lw_all := lw_g (lw_at lw_m5 204 rfl) rfl
theorem q1230 : (Jvm.Cond.selects "ThreeSizes" ({ cls := "ThreeSizes", name := "keep", desc := "(I)I" } : Jvm.MethodName) ({ cls := "ThreeSizes", name := "keep", desc := "(I)I" } : Jvm.MethodName)) ∈ lw_all := lw_g (lw_at lw_m5 205 rfl) rfl
theorem q1231 : (Jvm.Cond.code ({ cls := "ThreeSizes", name := "keep", desc := "(I)I" } : Jvm.MethodName) prog_1_method_46_code (8 : Nat) (Option.some Jvm.ClassFile.FieldType.int)) ∈ lw_all := lw_g (lw_at lw_m5 206 rfl) rfl
theorem q1233 : (Jvm.Cond.instanceMethod ({ cls := "ThreeSizes", name := "cart", desc := "(IIII)J" } : Jvm.MethodName)) ∈ lw_all := lw_g (lw_at lw_m5 208 rfl) rfl
theorem q1234 : (Jvm.Cond.selects "ThreeSizes" ({ cls := "ThreeSizes", name := "cart", desc := "(IIII)J" } : Jvm.MethodName) ({ cls := "ThreeSizes", name := "cart", desc := "(IIII)J" } : Jvm.MethodName)) ∈ lw_all := lw_g (lw_at lw_m5 209 rfl) rfl
theorem q1235 : (Jvm.Cond.codeWith ({ cls := "ThreeSizes", name := "cart", desc := "(IIII)J" } : Jvm.MethodName) prog_1_method_48_code (6 : Nat) (Option.some Jvm.ClassFile.FieldType.long) [((43 : Nat), (89 : Nat), (90 : Nat), (122 : Nat))]) ∈ lw_all := lw_g (lw_at lw_m5 210 rfl) rfl
theorem q1236 : (Jvm.Cond.classLink "ThreeSizes" (286 : Nat) "ThreeSizes$Placing") ∈ lw_all := lw_g (lw_at lw_m5 211 rfl) rfl
theorem q1238 : (Jvm.Cond.methodLink "ThreeSizes" (288 : Nat) ({ cls := "ThreeSizes", name := "cartful", desc := "(II)[I" } : Jvm.MethodName)) ∈ lw_all := lw_g (lw_at lw_m5 213 rfl) rfl
theorem q1239 : (Jvm.Cond.privateMethod ({ cls := "ThreeSizes", name := "cartful", desc := "(II)[I" } : Jvm.MethodName)) ∈ lw_tbl := lw_at lw_m5 214 rfl
theorem q1240 : (Jvm.Cond.instanceMethod ({ cls := "ThreeSizes", name := "cartful", desc := "(II)[I" } : Jvm.MethodName)) ∈ lw_all := lw_g (lw_at lw_m5 215 rfl) rfl
theorem q1241 : (Jvm.Cond.codeWith ({ cls := "ThreeSizes", name := "cartful", desc := "(II)[I" } : Jvm.MethodName) prog_1_method_47_code (8 : Nat) (Option.some (Jvm.ClassFile.FieldType.array Jvm.ClassFile.FieldType.int)) [((11 : Nat), (76 : Nat), (79 : Nat), (136 : Nat))]) ∈ lw_all := lw_g (lw_at lw_m5 216 rfl) rfl
theorem q1242 : (Jvm.Cond.methodLink "ThreeSizes" (292 : Nat) ({ cls := "ThreeSizes$Placing", name := "<init>", desc := "(LThreeSizes$Wall;[II)V" } : Jvm.MethodName)) ∈ lw_all := lw_g (lw_at lw_m5 217 rfl) rfl
theorem q1264 : (Jvm.Cond.fieldLink "ThreeSizes" (299 : Nat) "ThreeSizes$Placing" "best" "[I") ∈ lw_all := lw_g (lw_at lw_m5 239 rfl) rfl
theorem q1267 : (Jvm.Cond.fieldLink "ThreeSizes" (295 : Nat) "ThreeSizes$Placing" "sum" "J") ∈ lw_all := lw_g (lw_at lw_m6 2 rfl) rfl
theorem q1284 : (Jvm.Cond.instanceMethod ({ cls := "ThreeSizes", name := "judge", desc := "(III)I" } : Jvm.MethodName)) ∈ lw_all := lw_g (lw_at lw_m6 19 rfl) rfl
theorem q1285 : (Jvm.Cond.selects "ThreeSizes" ({ cls := "ThreeSizes", name := "judge", desc := "(III)I" } : Jvm.MethodName) ({ cls := "ThreeSizes", name := "judge", desc := "(III)I" } : Jvm.MethodName)) ∈ lw_all := lw_g (lw_at lw_m6 20 rfl) rfl
theorem q1286 : (Jvm.Cond.codeWith ({ cls := "ThreeSizes", name := "judge", desc := "(III)I" } : Jvm.MethodName) prog_1_method_52_code (5 : Nat) (Option.some Jvm.ClassFile.FieldType.int) [((0 : Nat), (23 : Nat), (24 : Nat), (122 : Nat))]) ∈ lw_all := lw_g (lw_at lw_m6 21 rfl) rfl
theorem q1287 : (Jvm.Cond.methodLink "ThreeSizes" (303 : Nat) ({ cls := "ThreeSizes", name := "rows", desc := "(III)V" } : Jvm.MethodName)) ∈ lw_all := lw_g (lw_at lw_m6 22 rfl) rfl
theorem q1288 : (Jvm.Cond.privateMethod ({ cls := "ThreeSizes", name := "rows", desc := "(III)V" } : Jvm.MethodName)) ∈ lw_tbl := lw_at lw_m6 23 rfl
theorem q1289 : (Jvm.Cond.instanceMethod ({ cls := "ThreeSizes", name := "rows", desc := "(III)V" } : Jvm.MethodName)) ∈ lw_all := lw_g (lw_at lw_m6 24 rfl) rfl
theorem q1290 : (Jvm.Cond.code ({ cls := "ThreeSizes", name := "rows", desc := "(III)V" } : Jvm.MethodName) prog_1_method_50_code (6 : Nat) (Option.none : Option Jvm.ClassFile.FieldType)) ∈ lw_all := lw_g (lw_at lw_m6 25 rfl) rfl
theorem q1291 : (Jvm.Cond.methodLink "ThreeSizes" (307 : Nat) ({ cls := "ThreeSizes", name := "sizes", desc := "(II)[I" } : Jvm.MethodName)) ∈ lw_all := lw_g (lw_at lw_m6 26 rfl) rfl
theorem q1292 : (Jvm.Cond.privateMethod ({ cls := "ThreeSizes", name := "sizes", desc := "(II)[I" } : Jvm.MethodName)) ∈ lw_tbl := lw_at lw_m6 27 rfl
theorem q1293 : (Jvm.Cond.instanceMethod ({ cls := "ThreeSizes", name := "sizes", desc := "(II)[I" } : Jvm.MethodName)) ∈ lw_all := lw_g (lw_at lw_m6 28 rfl) rfl
theorem q1294 : (Jvm.Cond.codeWith ({ cls := "ThreeSizes", name := "sizes", desc := "(II)[I" } : Jvm.MethodName) prog_1_method_49_code (8 : Nat) (Option.some (Jvm.ClassFile.FieldType.array Jvm.ClassFile.FieldType.int)) [((11 : Nat), (62 : Nat), (65 : Nat), (136 : Nat))]) ∈ lw_all := lw_g (lw_at lw_m6 29 rfl) rfl
theorem q1295 : (Jvm.Cond.constantLong "ThreeSizes" (301 : Nat) (3 : Int64)) ∈ lw_all := lw_g (lw_at lw_m6 30 rfl) rfl
theorem q1296 : (Jvm.Cond.methodLink "ThreeSizes" (310 : Nat) ({ cls := "ThreeSizes", name := "wrongIn", desc := "([I[I)I" } : Jvm.MethodName)) ∈ lw_all := lw_g (lw_at lw_m6 31 rfl) rfl
theorem q1297 : (Jvm.Cond.privateMethod ({ cls := "ThreeSizes", name := "wrongIn", desc := "([I[I)I" } : Jvm.MethodName)) ∈ lw_tbl := lw_at lw_m6 32 rfl
theorem q1298 : (Jvm.Cond.instanceMethod ({ cls := "ThreeSizes", name := "wrongIn", desc := "([I[I)I" } : Jvm.MethodName)) ∈ lw_all := lw_g (lw_at lw_m6 33 rfl) rfl
theorem q1299 : (Jvm.Cond.code ({ cls := "ThreeSizes", name := "wrongIn", desc := "([I[I)I" } : Jvm.MethodName) prog_1_method_51_code (5 : Nat) (Option.some Jvm.ClassFile.FieldType.int)) ∈ lw_all := lw_g (lw_at lw_m6 34 rfl) rfl
theorem q1301 : (Jvm.Cond.instanceMethod ({ cls := "ThreeSizes", name := "put", desc := "(III)I" } : Jvm.MethodName)) ∈ lw_all := lw_g (lw_at lw_m6 36 rfl) rfl
theorem q1302 : (Jvm.Cond.selects "ThreeSizes" ({ cls := "ThreeSizes", name := "put", desc := "(III)I" } : Jvm.MethodName) ({ cls := "ThreeSizes", name := "put", desc := "(III)I" } : Jvm.MethodName)) ∈ lw_all := lw_g (lw_at lw_m6 37 rfl) rfl
theorem q1303 : (Jvm.Cond.codeWith ({ cls := "ThreeSizes", name := "put", desc := "(III)I" } : Jvm.MethodName) prog_1_method_53_code (8 : Nat) (Option.some Jvm.ClassFile.FieldType.int) [((0 : Nat), (97 : Nat), (98 : Nat), (122 : Nat))]) ∈ lw_all := lw_g (lw_at lw_m6 38 rfl) rfl
theorem q1305 : (Jvm.Cond.instanceMethod ({ cls := "ThreeSizes", name := "build", desc := "(III)I" } : Jvm.MethodName)) ∈ lw_all := lw_g (lw_at lw_m6 40 rfl) rfl
theorem q1306 : (Jvm.Cond.selects "ThreeSizes" ({ cls := "ThreeSizes", name := "build", desc := "(III)I" } : Jvm.MethodName) ({ cls := "ThreeSizes", name := "build", desc := "(III)I" } : Jvm.MethodName)) ∈ lw_all := lw_g (lw_at lw_m6 41 rfl) rfl
theorem q1307 : (Jvm.Cond.code ({ cls := "ThreeSizes", name := "build", desc := "(III)I" } : Jvm.MethodName) prog_1_method_54_code (13 : Nat) (Option.some Jvm.ClassFile.FieldType.int)) ∈ lw_all := lw_g (lw_at lw_m6 42 rfl) rfl
theorem q1308 : (Jvm.Cond.methodLink "ThreeSizes" (314 : Nat) ({ cls := "java/util/Arrays", name := "fill", desc := "([II)V" } : Jvm.MethodName)) ∈ lw_all := lw_g (lw_at lw_m6 43 rfl) rfl
theorem q1311 : (Jvm.Cond.methodLink "ThreeSizes" (320 : Nat) ({ cls := "ThreeSizes", name := "freeOf", desc := "(II)I" } : Jvm.MethodName)) ∈ lw_all := lw_g (lw_at lw_m6 46 rfl) rfl
theorem q1313 : (Jvm.Cond.instanceMethod ({ cls := "ThreeSizes", name := "worth", desc := "(II)J" } : Jvm.MethodName)) ∈ lw_all := lw_g (lw_at lw_m6 48 rfl) rfl
theorem q1314 : (Jvm.Cond.selects "ThreeSizes" ({ cls := "ThreeSizes", name := "worth", desc := "(II)J" } : Jvm.MethodName) ({ cls := "ThreeSizes", name := "worth", desc := "(II)J" } : Jvm.MethodName)) ∈ lw_all := lw_g (lw_at lw_m6 49 rfl) rfl
theorem q1315 : (Jvm.Cond.code ({ cls := "ThreeSizes", name := "worth", desc := "(II)J" } : Jvm.MethodName) prog_1_method_55_code (4 : Nat) (Option.some Jvm.ClassFile.FieldType.long)) ∈ lw_all := lw_g (lw_at lw_m6 50 rfl) rfl
theorem q1317 : (Jvm.Cond.instanceMethod ({ cls := "ThreeSizes", name := "price", desc := "(II)J" } : Jvm.MethodName)) ∈ lw_all := lw_g (lw_at lw_m6 52 rfl) rfl
theorem q1318 : (Jvm.Cond.selects "ThreeSizes" ({ cls := "ThreeSizes", name := "price", desc := "(II)J" } : Jvm.MethodName) ({ cls := "ThreeSizes", name := "price", desc := "(II)J" } : Jvm.MethodName)) ∈ lw_all := lw_g (lw_at lw_m6 53 rfl) rfl
theorem q1319 : (Jvm.Cond.code ({ cls := "ThreeSizes", name := "price", desc := "(II)J" } : Jvm.MethodName) prog_1_method_56_code (5 : Nat) (Option.some Jvm.ClassFile.FieldType.long)) ∈ lw_all := lw_g (lw_at lw_m6 54 rfl) rfl
theorem q1321 : (Jvm.Cond.instanceMethod ({ cls := "ThreeSizes", name := "brings", desc := "(II)J" } : Jvm.MethodName)) ∈ lw_all := lw_g (lw_at lw_m6 56 rfl) rfl
theorem q1322 : (Jvm.Cond.selects "ThreeSizes" ({ cls := "ThreeSizes", name := "brings", desc := "(II)J" } : Jvm.MethodName) ({ cls := "ThreeSizes", name := "brings", desc := "(II)J" } : Jvm.MethodName)) ∈ lw_all := lw_g (lw_at lw_m6 57 rfl) rfl
theorem q1323 : (Jvm.Cond.code ({ cls := "ThreeSizes", name := "brings", desc := "(II)J" } : Jvm.MethodName) prog_1_method_57_code (4 : Nat) (Option.some Jvm.ClassFile.FieldType.long)) ∈ lw_all := lw_g (lw_at lw_m6 58 rfl) rfl
theorem q1325 : (Jvm.Cond.instanceMethod ({ cls := "ThreeSizes", name := "fits", desc := "(I)I" } : Jvm.MethodName)) ∈ lw_all := lw_g (lw_at lw_m6 60 rfl) rfl
theorem q1326 : (Jvm.Cond.selects "ThreeSizes" ({ cls := "ThreeSizes", name := "fits", desc := "(I)I" } : Jvm.MethodName) ({ cls := "ThreeSizes", name := "fits", desc := "(I)I" } : Jvm.MethodName)) ∈ lw_all := lw_g (lw_at lw_m6 61 rfl) rfl
theorem q1327 : (Jvm.Cond.code ({ cls := "ThreeSizes", name := "fits", desc := "(I)I" } : Jvm.MethodName) prog_1_method_58_code (4 : Nat) (Option.some Jvm.ClassFile.FieldType.int)) ∈ lw_all := lw_g (lw_at lw_m6 62 rfl) rfl
theorem q1329 : (Jvm.Cond.instanceMethod ({ cls := "ThreeSizes", name := "worst", desc := "(I)I" } : Jvm.MethodName)) ∈ lw_all := lw_g (lw_at lw_m6 64 rfl) rfl
theorem q1330 : (Jvm.Cond.selects "ThreeSizes" ({ cls := "ThreeSizes", name := "worst", desc := "(I)I" } : Jvm.MethodName) ({ cls := "ThreeSizes", name := "worst", desc := "(I)I" } : Jvm.MethodName)) ∈ lw_all := lw_g (lw_at lw_m6 65 rfl) rfl
theorem q1331 : (Jvm.Cond.code ({ cls := "ThreeSizes", name := "worst", desc := "(I)I" } : Jvm.MethodName) prog_1_method_59_code (5 : Nat) (Option.some Jvm.ClassFile.FieldType.int)) ∈ lw_all := lw_g (lw_at lw_m6 66 rfl) rfl
theorem q1333 : (Jvm.Cond.instanceMethod ({ cls := "ThreeSizes", name := "board", desc := "(I)J" } : Jvm.MethodName)) ∈ lw_all := lw_g (lw_at lw_m6 68 rfl) rfl
theorem q1334 : (Jvm.Cond.selects "ThreeSizes" ({ cls := "ThreeSizes", name := "board", desc := "(I)J" } : Jvm.MethodName) ({ cls := "ThreeSizes", name := "board", desc := "(I)J" } : Jvm.MethodName)) ∈ lw_all := lw_g (lw_at lw_m6 69 rfl) rfl
theorem q1335 : (Jvm.Cond.code ({ cls := "ThreeSizes", name := "board", desc := "(I)J" } : Jvm.MethodName) prog_1_method_60_code (3 : Nat) (Option.some Jvm.ClassFile.FieldType.long)) ∈ lw_all := lw_g (lw_at lw_m6 70 rfl) rfl
theorem q1336 : (Jvm.Cond.methodLink "ThreeSizes" (324 : Nat) ({ cls := "java/lang/Math", name := "min", desc := "(II)I" } : Jvm.MethodName)) ∈ lw_all := lw_g (lw_at lw_m6 71 rfl) rfl
theorem q1338 : (Jvm.Cond.instanceMethod ({ cls := "ThreeSizes", name := "letter", desc := "(II)J" } : Jvm.MethodName)) ∈ lw_all := lw_g (lw_at lw_m6 73 rfl) rfl
theorem q1339 : (Jvm.Cond.selects "ThreeSizes" ({ cls := "ThreeSizes", name := "letter", desc := "(II)J" } : Jvm.MethodName) ({ cls := "ThreeSizes", name := "letter", desc := "(II)J" } : Jvm.MethodName)) ∈ lw_all := lw_g (lw_at lw_m6 74 rfl) rfl
theorem q1340 : (Jvm.Cond.code ({ cls := "ThreeSizes", name := "letter", desc := "(II)J" } : Jvm.MethodName) prog_1_method_62_code (3 : Nat) (Option.some Jvm.ClassFile.FieldType.long)) ∈ lw_all := lw_g (lw_at lw_m6 75 rfl) rfl
theorem q1341 : (Jvm.Cond.methodLink "ThreeSizes" (337 : Nat) ({ cls := "ThreeSizes", name := "lettered", desc := "(II)J" } : Jvm.MethodName)) ∈ lw_all := lw_g (lw_at lw_m6 76 rfl) rfl
theorem q1342 : (Jvm.Cond.privateMethod ({ cls := "ThreeSizes", name := "lettered", desc := "(II)J" } : Jvm.MethodName)) ∈ lw_tbl := lw_at lw_m6 77 rfl
theorem q1343 : (Jvm.Cond.instanceMethod ({ cls := "ThreeSizes", name := "lettered", desc := "(II)J" } : Jvm.MethodName)) ∈ lw_all := lw_g (lw_at lw_m6 78 rfl) rfl
theorem q1344 : (Jvm.Cond.code ({ cls := "ThreeSizes", name := "lettered", desc := "(II)J" } : Jvm.MethodName) prog_1_method_61_code (8 : Nat) (Option.some Jvm.ClassFile.FieldType.long)) ∈ lw_all := lw_g (lw_at lw_m6 79 rfl) rfl
theorem q1345 : (Jvm.Cond.methodLink "ThreeSizes" (329 : Nat) ({ cls := "[I", name := "clone", desc := "()Ljava/lang/Object;" } : Jvm.MethodName)) ∈ lw_all := lw_g (lw_at lw_m6 80 rfl) rfl
theorem q1349 : (Jvm.Cond.methodLink "ThreeSizes" (333 : Nat) ({ cls := "ThreeSizes$Worths", name := "hour", desc := "(I[J[I)J" } : Jvm.MethodName)) ∈ lw_all := lw_g (lw_at lw_m6 84 rfl) rfl
theorem q1351 : (Jvm.Cond.instanceMethod ({ cls := "ThreeSizes", name := "whom", desc := "(I)I" } : Jvm.MethodName)) ∈ lw_all := lw_g (lw_at lw_m6 86 rfl) rfl
theorem q1352 : (Jvm.Cond.selects "ThreeSizes" ({ cls := "ThreeSizes", name := "whom", desc := "(I)I" } : Jvm.MethodName) ({ cls := "ThreeSizes", name := "whom", desc := "(I)I" } : Jvm.MethodName)) ∈ lw_all := lw_g (lw_at lw_m6 87 rfl) rfl
theorem q1353 : (Jvm.Cond.code ({ cls := "ThreeSizes", name := "whom", desc := "(I)I" } : Jvm.MethodName) prog_1_method_63_code (8 : Nat) (Option.some Jvm.ClassFile.FieldType.int)) ∈ lw_all := lw_g (lw_at lw_m6 88 rfl) rfl
theorem q1355 : (Jvm.Cond.instanceMethod ({ cls := "ThreeSizes", name := "feast", desc := "(II)J" } : Jvm.MethodName)) ∈ lw_all := lw_g (lw_at lw_m6 90 rfl) rfl
theorem q1356 : (Jvm.Cond.selects "ThreeSizes" ({ cls := "ThreeSizes", name := "feast", desc := "(II)J" } : Jvm.MethodName) ({ cls := "ThreeSizes", name := "feast", desc := "(II)J" } : Jvm.MethodName)) ∈ lw_all := lw_g (lw_at lw_m6 91 rfl) rfl
theorem q1357 : (Jvm.Cond.code ({ cls := "ThreeSizes", name := "feast", desc := "(II)J" } : Jvm.MethodName) prog_1_method_64_code (5 : Nat) (Option.some Jvm.ClassFile.FieldType.long)) ∈ lw_all := lw_g (lw_at lw_m6 92 rfl) rfl
theorem q1359 : (Jvm.Cond.instanceMethod ({ cls := "ThreeSizes", name := "go", desc := "(II)I" } : Jvm.MethodName)) ∈ lw_all := lw_g (lw_at lw_m6 94 rfl) rfl
theorem q1360 : (Jvm.Cond.selects "ThreeSizes" ({ cls := "ThreeSizes", name := "go", desc := "(II)I" } : Jvm.MethodName) ({ cls := "ThreeSizes", name := "go", desc := "(II)I" } : Jvm.MethodName)) ∈ lw_all := lw_g (lw_at lw_m6 95 rfl) rfl
theorem q1361 : (Jvm.Cond.codeWith ({ cls := "ThreeSizes", name := "go", desc := "(II)I" } : Jvm.MethodName) prog_1_method_65_code (6 : Nat) (Option.some Jvm.ClassFile.FieldType.int) [((0 : Nat), (58 : Nat), (59 : Nat), (122 : Nat))]) ∈ lw_all := lw_g (lw_at lw_m6 96 rfl) rfl
theorem q1362 : (Jvm.Cond.methodLink "ThreeSizes" (341 : Nat) ({ cls := "ThreeSizes$Day", name := "lives", desc := "(LThreeSizes$Rule;)I" } : Jvm.MethodName)) ∈ lw_all := lw_g (lw_at lw_m6 97 rfl) rfl
theorem q1380 : (Jvm.Cond.constant "ThreeSizes" (345 : Nat) (-1000000 : Int32)) ∈ lw_all := lw_g (lw_at lw_m6 115 rfl) rfl
theorem q1382 : (Jvm.Cond.instanceMethod ({ cls := "ThreeSizes", name := "day", desc := "(I)I" } : Jvm.MethodName)) ∈ lw_all := lw_g (lw_at lw_m6 117 rfl) rfl
theorem q1383 : (Jvm.Cond.selects "ThreeSizes" ({ cls := "ThreeSizes", name := "day", desc := "(I)I" } : Jvm.MethodName) ({ cls := "ThreeSizes", name := "day", desc := "(I)I" } : Jvm.MethodName)) ∈ lw_all := lw_g (lw_at lw_m6 118 rfl) rfl
theorem q1384 : (Jvm.Cond.code ({ cls := "ThreeSizes", name := "day", desc := "(I)I" } : Jvm.MethodName) prog_1_method_66_code (2 : Nat) (Option.some Jvm.ClassFile.FieldType.int)) ∈ lw_all := lw_g (lw_at lw_m6 119 rfl) rfl
theorem q1386 : (Jvm.Cond.instanceMethod ({ cls := "ThreeSizes", name := "seed", desc := "(I)I" } : Jvm.MethodName)) ∈ lw_all := lw_g (lw_at lw_m6 121 rfl) rfl
theorem q1387 : (Jvm.Cond.selects "ThreeSizes" ({ cls := "ThreeSizes", name := "seed", desc := "(I)I" } : Jvm.MethodName) ({ cls := "ThreeSizes", name := "seed", desc := "(I)I" } : Jvm.MethodName)) ∈ lw_all := lw_g (lw_at lw_m6 122 rfl) rfl
theorem q1388 : (Jvm.Cond.code ({ cls := "ThreeSizes", name := "seed", desc := "(I)I" } : Jvm.MethodName) prog_1_method_67_code (3 : Nat) (Option.some Jvm.ClassFile.FieldType.int)) ∈ lw_all := lw_g (lw_at lw_m6 123 rfl) rfl
theorem q1390 : (Jvm.Cond.instanceMethod ({ cls := "ThreeSizes", name := "image", desc := "()I" } : Jvm.MethodName)) ∈ lw_all := lw_g (lw_at lw_m6 125 rfl) rfl
theorem q1391 : (Jvm.Cond.selects "ThreeSizes" ({ cls := "ThreeSizes", name := "image", desc := "()I" } : Jvm.MethodName) ({ cls := "ThreeSizes", name := "image", desc := "()I" } : Jvm.MethodName)) ∈ lw_all := lw_g (lw_at lw_m6 126 rfl) rfl
theorem q1392 : (Jvm.Cond.code ({ cls := "ThreeSizes", name := "image", desc := "()I" } : Jvm.MethodName) prog_1_method_68_code (1 : Nat) (Option.some Jvm.ClassFile.FieldType.int)) ∈ lw_all := lw_g (lw_at lw_m6 127 rfl) rfl
theorem q1393 : (Jvm.Cond.methodLink "ThreeSizes" (367 : Nat) ({ cls := "ThreeSizes$Day", name := "copied", desc := "()LThreeSizes$Day;" } : Jvm.MethodName)) ∈ lw_all := lw_g (lw_at lw_m6 128 rfl) rfl
theorem q1401 : (Jvm.Cond.instanceMethod ({ cls := "ThreeSizes", name := "back", desc := "()I" } : Jvm.MethodName)) ∈ lw_all := lw_g (lw_at lw_m6 136 rfl) rfl
theorem q1402 : (Jvm.Cond.selects "ThreeSizes" ({ cls := "ThreeSizes", name := "back", desc := "()I" } : Jvm.MethodName) ({ cls := "ThreeSizes", name := "back", desc := "()I" } : Jvm.MethodName)) ∈ lw_all := lw_g (lw_at lw_m6 137 rfl) rfl
theorem q1403 : (Jvm.Cond.code ({ cls := "ThreeSizes", name := "back", desc := "()I" } : Jvm.MethodName) prog_1_method_69_code (1 : Nat) (Option.some Jvm.ClassFile.FieldType.int)) ∈ lw_all := lw_g (lw_at lw_m6 138 rfl) rfl
theorem q1405 : (Jvm.Cond.instanceMethod ({ cls := "ThreeSizes", name := "status", desc := "(I)I" } : Jvm.MethodName)) ∈ lw_all := lw_g (lw_at lw_m6 140 rfl) rfl
theorem q1406 : (Jvm.Cond.selects "ThreeSizes" ({ cls := "ThreeSizes", name := "status", desc := "(I)I" } : Jvm.MethodName) ({ cls := "ThreeSizes", name := "status", desc := "(I)I" } : Jvm.MethodName)) ∈ lw_all := lw_g (lw_at lw_m6 141 rfl) rfl
theorem q1407 : (Jvm.Cond.code ({ cls := "ThreeSizes", name := "status", desc := "(I)I" } : Jvm.MethodName) prog_1_method_71_code (2 : Nat) (Option.some Jvm.ClassFile.FieldType.int)) ∈ lw_all := lw_g (lw_at lw_m6 142 rfl) rfl
theorem q1408 : (Jvm.Cond.methodLink "ThreeSizes" (373 : Nat) ({ cls := "ThreeSizes", name := "held", desc := "()I" } : Jvm.MethodName)) ∈ lw_all := lw_g (lw_at lw_m6 143 rfl) rfl
theorem q1409 : (Jvm.Cond.privateMethod ({ cls := "ThreeSizes", name := "held", desc := "()I" } : Jvm.MethodName)) ∈ lw_tbl := lw_at lw_m6 144 rfl
theorem q1410 : (Jvm.Cond.instanceMethod ({ cls := "ThreeSizes", name := "held", desc := "()I" } : Jvm.MethodName)) ∈ lw_all := lw_g (lw_at lw_m6 145 rfl) rfl
theorem q1411 : (Jvm.Cond.code ({ cls := "ThreeSizes", name := "held", desc := "()I" } : Jvm.MethodName) prog_1_method_70_code (3 : Nat) (Option.some Jvm.ClassFile.FieldType.int)) ∈ lw_all := lw_g (lw_at lw_m6 146 rfl) rfl
theorem in_X0 : ∀ w ∈ wsX00, w ∈ lw_all := lw_in wsX00 [239, 241, 243, 245, 247, 249] (by decide +kernel) (by decide +kernel)
