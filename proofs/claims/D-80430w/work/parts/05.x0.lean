/-! ArrayMaker -/
set_option maxRecDepth 100000
def RX0 : String := "ArrayMaker"
def TX0 : u_T := fun k => match k with
  | 0 => ("ArrayMaker", "shape", "LArrayMaker$Shape;", true)
  | 1 => ("ArrayMaker", "arrays", "[LArrayMaker$Seen;", true)
  | 2 => ("ArrayMaker", "made", "I", false)
  | 3 => ("ArrayMaker", "code", "I", false)
  | 4 => ("ArrayMaker", "which", "I", false)
  | 5 => ("ArrayMaker", "lines", "[I", true)
  | 6 => ("ArrayMaker", "numbers", "[J", true)
  | 7 => ("ArrayMaker", "listed", "I", false)
  | 8 => ("ArrayMaker", "index", "[I", true)
  | 9 => ("ArrayMaker", "other", "[I", true)
  | _ => ("ArrayMaker", "turned", "LArrayMaker$Shape;", true)
def tyX0 : Nat → FieldType := fun k => match k with
  | 0 => .object "ArrayMaker$Shape"
  | 1 => .array (.object "ArrayMaker$Seen")
  | 2 => .int
  | 3 => .int
  | 4 => .int
  | 5 => .array .int
  | 6 => .array .long
  | 7 => .int
  | 8 => .array .int
  | 9 => .array .int
  | _ => .object "ArrayMaker$Shape"
abbrev wsX00 : List Cond := u_ws RX0 TX0 11
theorem nmX0 : ∀ a, a < 11 → ∀ b, b < 11 → a ≠ b → (TX0 a).2.1 ≠ (TX0 b).2.1 := by decide +kernel
theorem tyX0_ok : ∀ k, k < 11 → parseFieldDescriptor (TX0 k).2.2.1 = some (tyX0 k) := by decide +kernel
abbrev cX0_init : ByteArray := prog_1_method_1_code
def yX0_init : MethodName := ⟨RX0, "<init>", "()V"⟩
def dkwX0_init_4 : List UInt8 := [167, 255, 234, 177]
abbrev dktX0_init_4 : List UInt8 := dkwX0_init_4 ++ []
def dkwX0_init_3 : List UInt8 := [60, 27, 16, 24, 162, 0, 22, 42, 180, 0, 18, 27, 187, 0, 16, 89, 183, 0, 43, 83, 132, 1, 1]
abbrev dktX0_init_3 : List UInt8 := dkwX0_init_3 ++ dktX0_init_4
def dkwX0_init_2 : List UInt8 := [188, 10, 181, 0, 34, 42, 6, 188, 10, 181, 0, 37, 42, 187, 0, 7, 89, 183, 0, 9, 181, 0, 40, 3]
abbrev dktX0_init_2 : List UInt8 := dkwX0_init_2 ++ dktX0_init_3
def dkwX0_init_1 : List UInt8 := [42, 2, 181, 0, 22, 42, 16, 90, 188, 10, 181, 0, 26, 42, 16, 30, 188, 11, 181, 0, 30, 42, 6]
abbrev dktX0_init_1 : List UInt8 := dkwX0_init_1 ++ dktX0_init_2
def dkwX0_init_0 : List UInt8 := [42, 183, 0, 1, 42, 187, 0, 7, 89, 183, 0, 9, 181, 0, 10, 42, 16, 24, 189, 0, 16, 181, 0, 18]
abbrev dktX0_init_0 : List UInt8 := dkwX0_init_0 ++ dktX0_init_1
theorem dksX0_init_0 : cX0_init.data.toList.drop 0 = dktX0_init_0 := by decide +kernel
theorem dksX0_init_1 : cX0_init.data.toList.drop 24 = dktX0_init_1 := dk_seg dksX0_init_0 24 rfl rfl
theorem dksX0_init_2 : cX0_init.data.toList.drop 47 = dktX0_init_2 := dk_seg dksX0_init_1 23 rfl rfl
theorem dksX0_init_3 : cX0_init.data.toList.drop 71 = dktX0_init_3 := dk_seg dksX0_init_2 24 rfl rfl
theorem dksX0_init_4 : cX0_init.data.toList.drop 94 = dktX0_init_4 := dk_seg dksX0_init_3 23 rfl rfl
theorem dX0_init_0 : decode cX0_init 0 = .ok (.aload_n 0, 1) := dk_42 (dk_at dksX0_init_0 0 rfl rfl)
theorem dX0_init_1 : decode cX0_init 1 = .ok (.invokespecial 1, 3) := dk_183 0 1 (dk_at dksX0_init_0 1 rfl rfl)
theorem dX0_init_4 : decode cX0_init 4 = .ok (.aload_n 0, 1) := dk_42 (dk_at dksX0_init_0 4 rfl rfl)
theorem dX0_init_5 : decode cX0_init 5 = .ok (.new 7, 3) := dk_187 0 7 (dk_at dksX0_init_0 5 rfl rfl)
theorem dX0_init_8 : decode cX0_init 8 = .ok (.dup, 1) := dk_89 (dk_at dksX0_init_0 8 rfl rfl)
theorem dX0_init_9 : decode cX0_init 9 = .ok (.invokespecial 9, 3) := dk_183 0 9 (dk_at dksX0_init_0 9 rfl rfl)
theorem dX0_init_12 : decode cX0_init 12 = .ok (.putfield 10, 3) := dk_181 0 10 (dk_at dksX0_init_0 12 rfl rfl)
theorem dX0_init_15 : decode cX0_init 15 = .ok (.aload_n 0, 1) := dk_42 (dk_at dksX0_init_0 15 rfl rfl)
theorem dX0_init_16 : decode cX0_init 16 = .ok (.bipush 24, 2) := dk_16 24 (dk_at dksX0_init_0 16 rfl rfl)
theorem dX0_init_18 : decode cX0_init 18 = .ok (.anewarray 16, 3) := dk_189 0 16 (dk_at dksX0_init_0 18 rfl rfl)
theorem dX0_init_21 : decode cX0_init 21 = .ok (.putfield 18, 3) := dk_181 0 18 (dk_at dksX0_init_0 21 rfl rfl)
theorem dX0_init_24 : decode cX0_init 24 = .ok (.aload_n 0, 1) := dk_42 (dk_at dksX0_init_1 0 rfl rfl)
theorem dX0_init_25 : decode cX0_init 25 = .ok (.iconst (-1), 1) := dk_2 (dk_at dksX0_init_1 1 rfl rfl)
theorem dX0_init_26 : decode cX0_init 26 = .ok (.putfield 22, 3) := dk_181 0 22 (dk_at dksX0_init_1 2 rfl rfl)
theorem dX0_init_29 : decode cX0_init 29 = .ok (.aload_n 0, 1) := dk_42 (dk_at dksX0_init_1 5 rfl rfl)
theorem dX0_init_30 : decode cX0_init 30 = .ok (.bipush 90, 2) := dk_16 90 (dk_at dksX0_init_1 6 rfl rfl)
theorem dX0_init_32 : decode cX0_init 32 = .ok (.newarray .int, 2) := dk_188_10 (dk_at dksX0_init_1 8 rfl rfl)
theorem dX0_init_34 : decode cX0_init 34 = .ok (.putfield 26, 3) := dk_181 0 26 (dk_at dksX0_init_1 10 rfl rfl)
theorem dX0_init_37 : decode cX0_init 37 = .ok (.aload_n 0, 1) := dk_42 (dk_at dksX0_init_1 13 rfl rfl)
theorem dX0_init_38 : decode cX0_init 38 = .ok (.bipush 30, 2) := dk_16 30 (dk_at dksX0_init_1 14 rfl rfl)
theorem dX0_init_40 : decode cX0_init 40 = .ok (.newarray .long, 2) := dk_188_11 (dk_at dksX0_init_1 16 rfl rfl)
theorem dX0_init_42 : decode cX0_init 42 = .ok (.putfield 30, 3) := dk_181 0 30 (dk_at dksX0_init_1 18 rfl rfl)
theorem dX0_init_45 : decode cX0_init 45 = .ok (.aload_n 0, 1) := dk_42 (dk_at dksX0_init_1 21 rfl rfl)
theorem dX0_init_46 : decode cX0_init 46 = .ok (.iconst 3, 1) := dk_6 (dk_at dksX0_init_1 22 rfl rfl)
theorem dX0_init_47 : decode cX0_init 47 = .ok (.newarray .int, 2) := dk_188_10 (dk_at dksX0_init_2 0 rfl rfl)
theorem dX0_init_49 : decode cX0_init 49 = .ok (.putfield 34, 3) := dk_181 0 34 (dk_at dksX0_init_2 2 rfl rfl)
theorem dX0_init_52 : decode cX0_init 52 = .ok (.aload_n 0, 1) := dk_42 (dk_at dksX0_init_2 5 rfl rfl)
theorem dX0_init_53 : decode cX0_init 53 = .ok (.iconst 3, 1) := dk_6 (dk_at dksX0_init_2 6 rfl rfl)
theorem dX0_init_54 : decode cX0_init 54 = .ok (.newarray .int, 2) := dk_188_10 (dk_at dksX0_init_2 7 rfl rfl)
theorem dX0_init_56 : decode cX0_init 56 = .ok (.putfield 37, 3) := dk_181 0 37 (dk_at dksX0_init_2 9 rfl rfl)
theorem dX0_init_59 : decode cX0_init 59 = .ok (.aload_n 0, 1) := dk_42 (dk_at dksX0_init_2 12 rfl rfl)
theorem dX0_init_60 : decode cX0_init 60 = .ok (.new 7, 3) := dk_187 0 7 (dk_at dksX0_init_2 13 rfl rfl)
theorem dX0_init_63 : decode cX0_init 63 = .ok (.dup, 1) := dk_89 (dk_at dksX0_init_2 16 rfl rfl)
theorem dX0_init_64 : decode cX0_init 64 = .ok (.invokespecial 9, 3) := dk_183 0 9 (dk_at dksX0_init_2 17 rfl rfl)
theorem dX0_init_67 : decode cX0_init 67 = .ok (.putfield 40, 3) := dk_181 0 40 (dk_at dksX0_init_2 20 rfl rfl)
theorem dX0_init_70 : decode cX0_init 70 = .ok (.iconst 0, 1) := dk_3 (dk_at dksX0_init_2 23 rfl rfl)
theorem dX0_init_71 : decode cX0_init 71 = .ok (.istore_n 1, 1) := dk_60 (dk_at dksX0_init_3 0 rfl rfl)
theorem dX0_init_72 : decode cX0_init 72 = .ok (.iload_n 1, 1) := dk_27 (dk_at dksX0_init_3 1 rfl rfl)
theorem dX0_init_73 : decode cX0_init 73 = .ok (.bipush 24, 2) := dk_16 24 (dk_at dksX0_init_3 2 rfl rfl)
theorem dX0_init_75 : decode cX0_init 75 = .ok (.if_icmp .ge 22, 3) := dk_162 0 22 (dk_at dksX0_init_3 4 rfl rfl)
theorem dX0_init_78 : decode cX0_init 78 = .ok (.aload_n 0, 1) := dk_42 (dk_at dksX0_init_3 7 rfl rfl)
theorem dX0_init_79 : decode cX0_init 79 = .ok (.getfield 18, 3) := dk_180 0 18 (dk_at dksX0_init_3 8 rfl rfl)
theorem dX0_init_82 : decode cX0_init 82 = .ok (.iload_n 1, 1) := dk_27 (dk_at dksX0_init_3 11 rfl rfl)
theorem dX0_init_83 : decode cX0_init 83 = .ok (.new 16, 3) := dk_187 0 16 (dk_at dksX0_init_3 12 rfl rfl)
theorem dX0_init_86 : decode cX0_init 86 = .ok (.dup, 1) := dk_89 (dk_at dksX0_init_3 15 rfl rfl)
theorem dX0_init_87 : decode cX0_init 87 = .ok (.invokespecial 43, 3) := dk_183 0 43 (dk_at dksX0_init_3 16 rfl rfl)
theorem dX0_init_90 : decode cX0_init 90 = .ok (.aastore, 1) := dk_83 (dk_at dksX0_init_3 19 rfl rfl)
theorem dX0_init_91 : decode cX0_init 91 = .ok (.iinc 1 1, 3) := dk_132 1 1 (dk_at dksX0_init_3 20 rfl rfl)
theorem dX0_init_94 : decode cX0_init 94 = .ok (.goto (-22), 3) := dk_167 255 234 (dk_at dksX0_init_4 0 rfl rfl)
theorem dX0_init_97 : decode cX0_init 97 = .ok (.return_, 1) := dk_177 (dk_at dksX0_init_4 3 rfl rfl)
abbrev cX0_code : ByteArray := prog_1_method_14_code
def yX0_code : MethodName := ⟨RX0, "code", "()I"⟩
theorem dX0_code_0 : decode cX0_code 0 = .ok (.aload_n 0, 1) := by decide +kernel
theorem dX0_code_1 : decode cX0_code 1 = .ok (.getfield 44, 3) := by decide +kernel
theorem dX0_code_4 : decode cX0_code 4 = .ok (.ireturn, 1) := by decide +kernel
abbrev cX0_which : ByteArray := prog_1_method_15_code
def yX0_which : MethodName := ⟨RX0, "which", "()I"⟩
theorem dX0_which_0 : decode cX0_which 0 = .ok (.aload_n 0, 1) := by decide +kernel
theorem dX0_which_1 : decode cX0_which 1 = .ok (.getfield 22, 3) := by decide +kernel
theorem dX0_which_4 : decode cX0_which 4 = .ok (.ireturn, 1) := by decide +kernel
abbrev cX0_range : ByteArray := prog_1_method_16_code
def yX0_range : MethodName := ⟨RX0, "range", "(II)I"⟩
def dkwX0_range_2 : List UInt8 := [182, 0, 114, 172, 78, 42, 16, 8, 182, 0, 47, 172]
abbrev dktX0_range_2 : List UInt8 := dkwX0_range_2 ++ []
def dkwX0_range_1 : List UInt8 := [180, 0, 10, 180, 0, 108, 28, 79, 42, 42, 180, 0, 10, 89, 180, 0, 108, 4, 96, 90, 181, 0, 108]
abbrev dktX0_range_1 : List UInt8 := dkwX0_range_1 ++ dktX0_range_2
def dkwX0_range_0 : List UInt8 := [42, 180, 0, 10, 180, 0, 105, 42, 180, 0, 10, 180, 0, 108, 27, 79, 42, 180, 0, 10, 180, 0, 111, 42]
abbrev dktX0_range_0 : List UInt8 := dkwX0_range_0 ++ dktX0_range_1
theorem dksX0_range_0 : cX0_range.data.toList.drop 0 = dktX0_range_0 := by decide +kernel
theorem dksX0_range_1 : cX0_range.data.toList.drop 24 = dktX0_range_1 := dk_seg dksX0_range_0 24 rfl rfl
theorem dksX0_range_2 : cX0_range.data.toList.drop 47 = dktX0_range_2 := dk_seg dksX0_range_1 23 rfl rfl
theorem dX0_range_0 : decode cX0_range 0 = .ok (.aload_n 0, 1) := dk_42 (dk_at dksX0_range_0 0 rfl rfl)
theorem dX0_range_1 : decode cX0_range 1 = .ok (.getfield 10, 3) := dk_180 0 10 (dk_at dksX0_range_0 1 rfl rfl)
theorem dX0_range_4 : decode cX0_range 4 = .ok (.getfield 105, 3) := dk_180 0 105 (dk_at dksX0_range_0 4 rfl rfl)
theorem dX0_range_7 : decode cX0_range 7 = .ok (.aload_n 0, 1) := dk_42 (dk_at dksX0_range_0 7 rfl rfl)
theorem dX0_range_8 : decode cX0_range 8 = .ok (.getfield 10, 3) := dk_180 0 10 (dk_at dksX0_range_0 8 rfl rfl)
theorem dX0_range_11 : decode cX0_range 11 = .ok (.getfield 108, 3) := dk_180 0 108 (dk_at dksX0_range_0 11 rfl rfl)
theorem dX0_range_14 : decode cX0_range 14 = .ok (.iload_n 1, 1) := dk_27 (dk_at dksX0_range_0 14 rfl rfl)
theorem dX0_range_15 : decode cX0_range 15 = .ok (.iastore, 1) := dk_79 (dk_at dksX0_range_0 15 rfl rfl)
theorem dX0_range_16 : decode cX0_range 16 = .ok (.aload_n 0, 1) := dk_42 (dk_at dksX0_range_0 16 rfl rfl)
theorem dX0_range_17 : decode cX0_range 17 = .ok (.getfield 10, 3) := dk_180 0 10 (dk_at dksX0_range_0 17 rfl rfl)
theorem dX0_range_20 : decode cX0_range 20 = .ok (.getfield 111, 3) := dk_180 0 111 (dk_at dksX0_range_0 20 rfl rfl)
theorem dX0_range_23 : decode cX0_range 23 = .ok (.aload_n 0, 1) := dk_42 (dk_at dksX0_range_0 23 rfl rfl)
theorem dX0_range_24 : decode cX0_range 24 = .ok (.getfield 10, 3) := dk_180 0 10 (dk_at dksX0_range_1 0 rfl rfl)
theorem dX0_range_27 : decode cX0_range 27 = .ok (.getfield 108, 3) := dk_180 0 108 (dk_at dksX0_range_1 3 rfl rfl)
theorem dX0_range_30 : decode cX0_range 30 = .ok (.iload_n 2, 1) := dk_28 (dk_at dksX0_range_1 6 rfl rfl)
theorem dX0_range_31 : decode cX0_range 31 = .ok (.iastore, 1) := dk_79 (dk_at dksX0_range_1 7 rfl rfl)
theorem dX0_range_32 : decode cX0_range 32 = .ok (.aload_n 0, 1) := dk_42 (dk_at dksX0_range_1 8 rfl rfl)
theorem dX0_range_33 : decode cX0_range 33 = .ok (.aload_n 0, 1) := dk_42 (dk_at dksX0_range_1 9 rfl rfl)
theorem dX0_range_34 : decode cX0_range 34 = .ok (.getfield 10, 3) := dk_180 0 10 (dk_at dksX0_range_1 10 rfl rfl)
theorem dX0_range_37 : decode cX0_range 37 = .ok (.dup, 1) := dk_89 (dk_at dksX0_range_1 13 rfl rfl)
theorem dX0_range_38 : decode cX0_range 38 = .ok (.getfield 108, 3) := dk_180 0 108 (dk_at dksX0_range_1 14 rfl rfl)
theorem dX0_range_41 : decode cX0_range 41 = .ok (.iconst 1, 1) := dk_4 (dk_at dksX0_range_1 17 rfl rfl)
theorem dX0_range_42 : decode cX0_range 42 = .ok (.iadd, 1) := dk_96 (dk_at dksX0_range_1 18 rfl rfl)
theorem dX0_range_43 : decode cX0_range 43 = .ok (.dup_x1, 1) := dk_90 (dk_at dksX0_range_1 19 rfl rfl)
theorem dX0_range_44 : decode cX0_range 44 = .ok (.putfield 108, 3) := dk_181 0 108 (dk_at dksX0_range_1 20 rfl rfl)
theorem dX0_range_47 : decode cX0_range 47 = .ok (.invokevirtual 114, 3) := dk_182 0 114 (dk_at dksX0_range_2 0 rfl rfl)
theorem dX0_range_50 : decode cX0_range 50 = .ok (.ireturn, 1) := dk_172 (dk_at dksX0_range_2 3 rfl rfl)
theorem dX0_range_51 : decode cX0_range 51 = .ok (.astore_n 3, 1) := dk_78 (dk_at dksX0_range_2 4 rfl rfl)
theorem dX0_range_52 : decode cX0_range 52 = .ok (.aload_n 0, 1) := dk_42 (dk_at dksX0_range_2 5 rfl rfl)
theorem dX0_range_53 : decode cX0_range 53 = .ok (.bipush 8, 2) := dk_16 8 (dk_at dksX0_range_2 6 rfl rfl)
theorem dX0_range_55 : decode cX0_range 55 = .ok (.invokevirtual 47, 3) := dk_182 0 47 (dk_at dksX0_range_2 8 rfl rfl)
theorem dX0_range_58 : decode cX0_range 58 = .ok (.ireturn, 1) := dk_172 (dk_at dksX0_range_2 11 rfl rfl)
abbrev cX0_done : ByteArray := prog_1_method_4_code
def yX0_done : MethodName := ⟨RX0, "done", "(I)I"⟩
def dkwX0_done_0 : List UInt8 := [42, 3, 181, 0, 44, 27, 172]
abbrev dktX0_done_0 : List UInt8 := dkwX0_done_0 ++ []
theorem dksX0_done_0 : cX0_done.data.toList.drop 0 = dktX0_done_0 := by decide +kernel
theorem dX0_done_0 : decode cX0_done 0 = .ok (.aload_n 0, 1) := dk_42 (dk_at dksX0_done_0 0 rfl rfl)
theorem dX0_done_1 : decode cX0_done 1 = .ok (.iconst 0, 1) := dk_3 (dk_at dksX0_done_0 1 rfl rfl)
theorem dX0_done_2 : decode cX0_done 2 = .ok (.putfield 44, 3) := dk_181 0 44 (dk_at dksX0_done_0 2 rfl rfl)
theorem dX0_done_5 : decode cX0_done 5 = .ok (.iload_n 1, 1) := dk_27 (dk_at dksX0_done_0 5 rfl rfl)
theorem dX0_done_6 : decode cX0_done 6 = .ok (.ireturn, 1) := dk_172 (dk_at dksX0_done_0 6 rfl rfl)
abbrev cX0_fail : ByteArray := prog_1_method_2_code
def yX0_fail : MethodName := ⟨RX0, "fail", "(I)I"⟩
def dkwX0_fail_0 : List UInt8 := [42, 27, 181, 0, 44, 3, 172]
abbrev dktX0_fail_0 : List UInt8 := dkwX0_fail_0 ++ []
theorem dksX0_fail_0 : cX0_fail.data.toList.drop 0 = dktX0_fail_0 := by decide +kernel
theorem dX0_fail_0 : decode cX0_fail 0 = .ok (.aload_n 0, 1) := dk_42 (dk_at dksX0_fail_0 0 rfl rfl)
theorem dX0_fail_1 : decode cX0_fail 1 = .ok (.iload_n 1, 1) := dk_27 (dk_at dksX0_fail_0 1 rfl rfl)
theorem dX0_fail_2 : decode cX0_fail 2 = .ok (.putfield 44, 3) := dk_181 0 44 (dk_at dksX0_fail_0 2 rfl rfl)
theorem dX0_fail_5 : decode cX0_fail 5 = .ok (.iconst 0, 1) := dk_3 (dk_at dksX0_fail_0 5 rfl rfl)
theorem dX0_fail_6 : decode cX0_fail 6 = .ok (.ireturn, 1) := dk_172 (dk_at dksX0_fail_0 6 rfl rfl)
abbrev cX0_shapeless : ByteArray := prog_1_method_17_code
def yX0_shapeless : MethodName := ⟨RX0, "shapeless", "()I"⟩
def dkwX0_shapeless_0 : List UInt8 := [42, 180, 0, 10, 180, 0, 108, 60, 42, 180, 0, 10, 3, 181, 0, 108, 42, 27, 182, 0, 114, 172]
abbrev dktX0_shapeless_0 : List UInt8 := dkwX0_shapeless_0 ++ []
theorem dksX0_shapeless_0 : cX0_shapeless.data.toList.drop 0 = dktX0_shapeless_0 := by decide +kernel
theorem dX0_shapeless_0 : decode cX0_shapeless 0 = .ok (.aload_n 0, 1) := dk_42 (dk_at dksX0_shapeless_0 0 rfl rfl)
theorem dX0_shapeless_1 : decode cX0_shapeless 1 = .ok (.getfield 10, 3) := dk_180 0 10 (dk_at dksX0_shapeless_0 1 rfl rfl)
theorem dX0_shapeless_4 : decode cX0_shapeless 4 = .ok (.getfield 108, 3) := dk_180 0 108 (dk_at dksX0_shapeless_0 4 rfl rfl)
theorem dX0_shapeless_7 : decode cX0_shapeless 7 = .ok (.istore_n 1, 1) := dk_60 (dk_at dksX0_shapeless_0 7 rfl rfl)
theorem dX0_shapeless_8 : decode cX0_shapeless 8 = .ok (.aload_n 0, 1) := dk_42 (dk_at dksX0_shapeless_0 8 rfl rfl)
theorem dX0_shapeless_9 : decode cX0_shapeless 9 = .ok (.getfield 10, 3) := dk_180 0 10 (dk_at dksX0_shapeless_0 9 rfl rfl)
theorem dX0_shapeless_12 : decode cX0_shapeless 12 = .ok (.iconst 0, 1) := dk_3 (dk_at dksX0_shapeless_0 12 rfl rfl)
theorem dX0_shapeless_13 : decode cX0_shapeless 13 = .ok (.putfield 108, 3) := dk_181 0 108 (dk_at dksX0_shapeless_0 13 rfl rfl)
theorem dX0_shapeless_16 : decode cX0_shapeless 16 = .ok (.aload_n 0, 1) := dk_42 (dk_at dksX0_shapeless_0 16 rfl rfl)
theorem dX0_shapeless_17 : decode cX0_shapeless 17 = .ok (.iload_n 1, 1) := dk_27 (dk_at dksX0_shapeless_0 17 rfl rfl)
theorem dX0_shapeless_18 : decode cX0_shapeless 18 = .ok (.invokevirtual 114, 3) := dk_182 0 114 (dk_at dksX0_shapeless_0 18 rfl rfl)
theorem dX0_shapeless_21 : decode cX0_shapeless 21 = .ok (.ireturn, 1) := dk_172 (dk_at dksX0_shapeless_0 21 rfl rfl)
abbrev cX0_make : ByteArray := prog_1_method_19_code
def yX0_make : MethodName := ⟨RX0, "make", "(I)I"⟩
def dkwX0_make_7 : List UInt8 := [181, 0, 108, 21, 4, 172]
abbrev dktX0_make_7 : List UInt8 := dkwX0_make_7 ++ []
def dkwX0_make_6 : List UInt8 := [28, 29, 108, 184, 0, 130, 167, 0, 8, 27, 28, 184, 0, 134, 182, 0, 137, 54, 4, 42, 180, 0, 10, 3]
abbrev dktX0_make_6 : List UInt8 := dkwX0_make_6 ++ dktX0_make_7
def dkwX0_make_5 : List UInt8 := [167, 0, 4, 3, 62, 42, 42, 180, 0, 10, 27, 7, 160, 0, 21, 29, 29, 154, 0, 7, 3, 167, 0, 6]
abbrev dktX0_make_5 : List UInt8 := dkwX0_make_5 ++ dktX0_make_6
def dkwX0_make_4 : List UInt8 := [160, 0, 10, 42, 16, 8, 182, 0, 47, 172, 27, 7, 160, 0, 15, 42, 180, 0, 10, 3, 182, 0, 124, 136]
abbrev dktX0_make_4 : List UInt8 := dkwX0_make_4 ++ dktX0_make_5
def dkwX0_make_3 : List UInt8 := [182, 0, 124, 20, 0, 128, 148, 158, 0, 9, 42, 8, 182, 0, 47, 172, 42, 180, 0, 51, 16, 24]
abbrev dktX0_make_3 : List UInt8 := dkwX0_make_3 ++ dktX0_make_4
def dkwX0_make_2 : List UInt8 := [180, 0, 10, 182, 0, 120, 61, 28, 17, 1, 244, 163, 0, 23, 27, 7, 160, 0, 24, 42, 180, 0, 10, 3]
abbrev dktX0_make_2 : List UInt8 := dkwX0_make_2 ++ dktX0_make_3
def dkwX0_make_1 : List UInt8 := [160, 0, 21, 42, 180, 0, 10, 180, 0, 108, 5, 159, 0, 10, 42, 16, 9, 182, 0, 47, 172, 42]
abbrev dktX0_make_1 : List UInt8 := dkwX0_make_1 ++ dktX0_make_2
def dkwX0_make_0 : List UInt8 := [27, 155, 0, 8, 27, 7, 164, 0, 6, 18, 119, 172, 42, 180, 0, 10, 180, 0, 108, 153, 0, 19, 27, 7]
abbrev dktX0_make_0 : List UInt8 := dkwX0_make_0 ++ dktX0_make_1
theorem dksX0_make_0 : cX0_make.data.toList.drop 0 = dktX0_make_0 := by decide +kernel
theorem dksX0_make_1 : cX0_make.data.toList.drop 24 = dktX0_make_1 := dk_seg dksX0_make_0 24 rfl rfl
theorem dksX0_make_2 : cX0_make.data.toList.drop 46 = dktX0_make_2 := dk_seg dksX0_make_1 22 rfl rfl
theorem dksX0_make_3 : cX0_make.data.toList.drop 70 = dktX0_make_3 := dk_seg dksX0_make_2 24 rfl rfl
theorem dksX0_make_4 : cX0_make.data.toList.drop 92 = dktX0_make_4 := dk_seg dksX0_make_3 22 rfl rfl
theorem dksX0_make_5 : cX0_make.data.toList.drop 116 = dktX0_make_5 := dk_seg dksX0_make_4 24 rfl rfl
theorem dksX0_make_6 : cX0_make.data.toList.drop 140 = dktX0_make_6 := dk_seg dksX0_make_5 24 rfl rfl
theorem dksX0_make_7 : cX0_make.data.toList.drop 164 = dktX0_make_7 := dk_seg dksX0_make_6 24 rfl rfl
theorem dX0_make_0 : decode cX0_make 0 = .ok (.iload_n 1, 1) := dk_27 (dk_at dksX0_make_0 0 rfl rfl)
theorem dX0_make_1 : decode cX0_make 1 = .ok (.ifCond .lt 8, 3) := dk_155 0 8 (dk_at dksX0_make_0 1 rfl rfl)
theorem dX0_make_4 : decode cX0_make 4 = .ok (.iload_n 1, 1) := dk_27 (dk_at dksX0_make_0 4 rfl rfl)
theorem dX0_make_5 : decode cX0_make 5 = .ok (.iconst 4, 1) := dk_7 (dk_at dksX0_make_0 5 rfl rfl)
theorem dX0_make_6 : decode cX0_make 6 = .ok (.if_icmp .le 6, 3) := dk_164 0 6 (dk_at dksX0_make_0 6 rfl rfl)
theorem dX0_make_9 : decode cX0_make 9 = .ok (.ldc 119, 2) := dk_18 119 (dk_at dksX0_make_0 9 rfl rfl)
theorem dX0_make_11 : decode cX0_make 11 = .ok (.ireturn, 1) := dk_172 (dk_at dksX0_make_0 11 rfl rfl)
theorem dX0_make_12 : decode cX0_make 12 = .ok (.aload_n 0, 1) := dk_42 (dk_at dksX0_make_0 12 rfl rfl)
theorem dX0_make_13 : decode cX0_make 13 = .ok (.getfield 10, 3) := dk_180 0 10 (dk_at dksX0_make_0 13 rfl rfl)
theorem dX0_make_16 : decode cX0_make 16 = .ok (.getfield 108, 3) := dk_180 0 108 (dk_at dksX0_make_0 16 rfl rfl)
theorem dX0_make_19 : decode cX0_make 19 = .ok (.ifCond .eq 19, 3) := dk_153 0 19 (dk_at dksX0_make_0 19 rfl rfl)
theorem dX0_make_22 : decode cX0_make 22 = .ok (.iload_n 1, 1) := dk_27 (dk_at dksX0_make_0 22 rfl rfl)
theorem dX0_make_23 : decode cX0_make 23 = .ok (.iconst 4, 1) := dk_7 (dk_at dksX0_make_0 23 rfl rfl)
theorem dX0_make_24 : decode cX0_make 24 = .ok (.if_icmp .ne 21, 3) := dk_160 0 21 (dk_at dksX0_make_1 0 rfl rfl)
theorem dX0_make_27 : decode cX0_make 27 = .ok (.aload_n 0, 1) := dk_42 (dk_at dksX0_make_1 3 rfl rfl)
theorem dX0_make_28 : decode cX0_make 28 = .ok (.getfield 10, 3) := dk_180 0 10 (dk_at dksX0_make_1 4 rfl rfl)
theorem dX0_make_31 : decode cX0_make 31 = .ok (.getfield 108, 3) := dk_180 0 108 (dk_at dksX0_make_1 7 rfl rfl)
theorem dX0_make_34 : decode cX0_make 34 = .ok (.iconst 2, 1) := dk_5 (dk_at dksX0_make_1 10 rfl rfl)
theorem dX0_make_35 : decode cX0_make 35 = .ok (.if_icmp .eq 10, 3) := dk_159 0 10 (dk_at dksX0_make_1 11 rfl rfl)
theorem dX0_make_38 : decode cX0_make 38 = .ok (.aload_n 0, 1) := dk_42 (dk_at dksX0_make_1 14 rfl rfl)
theorem dX0_make_39 : decode cX0_make 39 = .ok (.bipush 9, 2) := dk_16 9 (dk_at dksX0_make_1 15 rfl rfl)
theorem dX0_make_41 : decode cX0_make 41 = .ok (.invokevirtual 47, 3) := dk_182 0 47 (dk_at dksX0_make_1 17 rfl rfl)
theorem dX0_make_44 : decode cX0_make 44 = .ok (.ireturn, 1) := dk_172 (dk_at dksX0_make_1 20 rfl rfl)
theorem dX0_make_45 : decode cX0_make 45 = .ok (.aload_n 0, 1) := dk_42 (dk_at dksX0_make_1 21 rfl rfl)
theorem dX0_make_46 : decode cX0_make 46 = .ok (.getfield 10, 3) := dk_180 0 10 (dk_at dksX0_make_2 0 rfl rfl)
theorem dX0_make_49 : decode cX0_make 49 = .ok (.invokevirtual 120, 3) := dk_182 0 120 (dk_at dksX0_make_2 3 rfl rfl)
theorem dX0_make_52 : decode cX0_make 52 = .ok (.istore_n 2, 1) := dk_61 (dk_at dksX0_make_2 6 rfl rfl)
theorem dX0_make_53 : decode cX0_make 53 = .ok (.iload_n 2, 1) := dk_28 (dk_at dksX0_make_2 7 rfl rfl)
theorem dX0_make_54 : decode cX0_make 54 = .ok (.sipush 500, 3) := dk_17 1 244 (dk_at dksX0_make_2 8 rfl rfl)
theorem dX0_make_57 : decode cX0_make 57 = .ok (.if_icmp .gt 23, 3) := dk_163 0 23 (dk_at dksX0_make_2 11 rfl rfl)
theorem dX0_make_60 : decode cX0_make 60 = .ok (.iload_n 1, 1) := dk_27 (dk_at dksX0_make_2 14 rfl rfl)
theorem dX0_make_61 : decode cX0_make 61 = .ok (.iconst 4, 1) := dk_7 (dk_at dksX0_make_2 15 rfl rfl)
theorem dX0_make_62 : decode cX0_make 62 = .ok (.if_icmp .ne 24, 3) := dk_160 0 24 (dk_at dksX0_make_2 16 rfl rfl)
theorem dX0_make_65 : decode cX0_make 65 = .ok (.aload_n 0, 1) := dk_42 (dk_at dksX0_make_2 19 rfl rfl)
theorem dX0_make_66 : decode cX0_make 66 = .ok (.getfield 10, 3) := dk_180 0 10 (dk_at dksX0_make_2 20 rfl rfl)
theorem dX0_make_69 : decode cX0_make 69 = .ok (.iconst 0, 1) := dk_3 (dk_at dksX0_make_2 23 rfl rfl)
theorem dX0_make_70 : decode cX0_make 70 = .ok (.invokevirtual 124, 3) := dk_182 0 124 (dk_at dksX0_make_3 0 rfl rfl)
theorem dX0_make_73 : decode cX0_make 73 = .ok (.ldc2_w 128, 3) := dk_20 0 128 (dk_at dksX0_make_3 3 rfl rfl)
theorem dX0_make_76 : decode cX0_make 76 = .ok (.lcmp, 1) := dk_148 (dk_at dksX0_make_3 6 rfl rfl)
theorem dX0_make_77 : decode cX0_make 77 = .ok (.ifCond .le 9, 3) := dk_158 0 9 (dk_at dksX0_make_3 7 rfl rfl)
theorem dX0_make_80 : decode cX0_make 80 = .ok (.aload_n 0, 1) := dk_42 (dk_at dksX0_make_3 10 rfl rfl)
theorem dX0_make_81 : decode cX0_make 81 = .ok (.iconst 5, 1) := dk_8 (dk_at dksX0_make_3 11 rfl rfl)
theorem dX0_make_82 : decode cX0_make 82 = .ok (.invokevirtual 47, 3) := dk_182 0 47 (dk_at dksX0_make_3 12 rfl rfl)
theorem dX0_make_85 : decode cX0_make 85 = .ok (.ireturn, 1) := dk_172 (dk_at dksX0_make_3 15 rfl rfl)
theorem dX0_make_86 : decode cX0_make 86 = .ok (.aload_n 0, 1) := dk_42 (dk_at dksX0_make_3 16 rfl rfl)
theorem dX0_make_87 : decode cX0_make 87 = .ok (.getfield 51, 3) := dk_180 0 51 (dk_at dksX0_make_3 17 rfl rfl)
theorem dX0_make_90 : decode cX0_make 90 = .ok (.bipush 24, 2) := dk_16 24 (dk_at dksX0_make_3 20 rfl rfl)
theorem dX0_make_92 : decode cX0_make 92 = .ok (.if_icmp .ne 10, 3) := dk_160 0 10 (dk_at dksX0_make_4 0 rfl rfl)
theorem dX0_make_95 : decode cX0_make 95 = .ok (.aload_n 0, 1) := dk_42 (dk_at dksX0_make_4 3 rfl rfl)
theorem dX0_make_96 : decode cX0_make 96 = .ok (.bipush 8, 2) := dk_16 8 (dk_at dksX0_make_4 4 rfl rfl)
theorem dX0_make_98 : decode cX0_make 98 = .ok (.invokevirtual 47, 3) := dk_182 0 47 (dk_at dksX0_make_4 6 rfl rfl)
theorem dX0_make_101 : decode cX0_make 101 = .ok (.ireturn, 1) := dk_172 (dk_at dksX0_make_4 9 rfl rfl)
theorem dX0_make_102 : decode cX0_make 102 = .ok (.iload_n 1, 1) := dk_27 (dk_at dksX0_make_4 10 rfl rfl)
theorem dX0_make_103 : decode cX0_make 103 = .ok (.iconst 4, 1) := dk_7 (dk_at dksX0_make_4 11 rfl rfl)
theorem dX0_make_104 : decode cX0_make 104 = .ok (.if_icmp .ne 15, 3) := dk_160 0 15 (dk_at dksX0_make_4 12 rfl rfl)
theorem dX0_make_107 : decode cX0_make 107 = .ok (.aload_n 0, 1) := dk_42 (dk_at dksX0_make_4 15 rfl rfl)
theorem dX0_make_108 : decode cX0_make 108 = .ok (.getfield 10, 3) := dk_180 0 10 (dk_at dksX0_make_4 16 rfl rfl)
theorem dX0_make_111 : decode cX0_make 111 = .ok (.iconst 0, 1) := dk_3 (dk_at dksX0_make_4 19 rfl rfl)
theorem dX0_make_112 : decode cX0_make 112 = .ok (.invokevirtual 124, 3) := dk_182 0 124 (dk_at dksX0_make_4 20 rfl rfl)
theorem dX0_make_115 : decode cX0_make 115 = .ok (.l2i, 1) := dk_136 (dk_at dksX0_make_4 23 rfl rfl)
theorem dX0_make_116 : decode cX0_make 116 = .ok (.goto 4, 3) := dk_167 0 4 (dk_at dksX0_make_5 0 rfl rfl)
theorem dX0_make_119 : decode cX0_make 119 = .ok (.iconst 0, 1) := dk_3 (dk_at dksX0_make_5 3 rfl rfl)
theorem dX0_make_120 : decode cX0_make 120 = .ok (.istore_n 3, 1) := dk_62 (dk_at dksX0_make_5 4 rfl rfl)
theorem dX0_make_121 : decode cX0_make 121 = .ok (.aload_n 0, 1) := dk_42 (dk_at dksX0_make_5 5 rfl rfl)
theorem dX0_make_122 : decode cX0_make 122 = .ok (.aload_n 0, 1) := dk_42 (dk_at dksX0_make_5 6 rfl rfl)
theorem dX0_make_123 : decode cX0_make 123 = .ok (.getfield 10, 3) := dk_180 0 10 (dk_at dksX0_make_5 7 rfl rfl)
theorem dX0_make_126 : decode cX0_make 126 = .ok (.iload_n 1, 1) := dk_27 (dk_at dksX0_make_5 10 rfl rfl)
theorem dX0_make_127 : decode cX0_make 127 = .ok (.iconst 4, 1) := dk_7 (dk_at dksX0_make_5 11 rfl rfl)
theorem dX0_make_128 : decode cX0_make 128 = .ok (.if_icmp .ne 21, 3) := dk_160 0 21 (dk_at dksX0_make_5 12 rfl rfl)
theorem dX0_make_131 : decode cX0_make 131 = .ok (.iload_n 3, 1) := dk_29 (dk_at dksX0_make_5 15 rfl rfl)
theorem dX0_make_132 : decode cX0_make 132 = .ok (.iload_n 3, 1) := dk_29 (dk_at dksX0_make_5 16 rfl rfl)
theorem dX0_make_133 : decode cX0_make 133 = .ok (.ifCond .ne 7, 3) := dk_154 0 7 (dk_at dksX0_make_5 17 rfl rfl)
theorem dX0_make_136 : decode cX0_make 136 = .ok (.iconst 0, 1) := dk_3 (dk_at dksX0_make_5 20 rfl rfl)
theorem dX0_make_137 : decode cX0_make 137 = .ok (.goto 6, 3) := dk_167 0 6 (dk_at dksX0_make_5 21 rfl rfl)
theorem dX0_make_140 : decode cX0_make 140 = .ok (.iload_n 2, 1) := dk_28 (dk_at dksX0_make_6 0 rfl rfl)
theorem dX0_make_141 : decode cX0_make 141 = .ok (.iload_n 3, 1) := dk_29 (dk_at dksX0_make_6 1 rfl rfl)
theorem dX0_make_142 : decode cX0_make 142 = .ok (.idiv, 1) := dk_108 (dk_at dksX0_make_6 2 rfl rfl)
theorem dX0_make_143 : decode cX0_make 143 = .ok (.invokestatic 130, 3) := dk_184 0 130 (dk_at dksX0_make_6 3 rfl rfl)
theorem dX0_make_146 : decode cX0_make 146 = .ok (.goto 8, 3) := dk_167 0 8 (dk_at dksX0_make_6 6 rfl rfl)
theorem dX0_make_149 : decode cX0_make 149 = .ok (.iload_n 1, 1) := dk_27 (dk_at dksX0_make_6 9 rfl rfl)
theorem dX0_make_150 : decode cX0_make 150 = .ok (.iload_n 2, 1) := dk_28 (dk_at dksX0_make_6 10 rfl rfl)
theorem dX0_make_151 : decode cX0_make 151 = .ok (.invokestatic 134, 3) := dk_184 0 134 (dk_at dksX0_make_6 11 rfl rfl)
theorem dX0_make_154 : decode cX0_make 154 = .ok (.invokevirtual 137, 3) := dk_182 0 137 (dk_at dksX0_make_6 14 rfl rfl)
theorem dX0_make_157 : decode cX0_make 157 = .ok (.istore 4, 2) := dk_54 4 (dk_at dksX0_make_6 17 rfl rfl)
theorem dX0_make_159 : decode cX0_make 159 = .ok (.aload_n 0, 1) := dk_42 (dk_at dksX0_make_6 19 rfl rfl)
theorem dX0_make_160 : decode cX0_make 160 = .ok (.getfield 10, 3) := dk_180 0 10 (dk_at dksX0_make_6 20 rfl rfl)
theorem dX0_make_163 : decode cX0_make 163 = .ok (.iconst 0, 1) := dk_3 (dk_at dksX0_make_6 23 rfl rfl)
theorem dX0_make_164 : decode cX0_make 164 = .ok (.putfield 108, 3) := dk_181 0 108 (dk_at dksX0_make_7 0 rfl rfl)
theorem dX0_make_167 : decode cX0_make 167 = .ok (.iload 4, 2) := dk_21 4 (dk_at dksX0_make_7 3 rfl rfl)
theorem dX0_make_169 : decode cX0_make 169 = .ok (.ireturn, 1) := dk_172 (dk_at dksX0_make_7 5 rfl rfl)
abbrev cX0_freshTable : ByteArray := prog_1_method_18_code
def yX0_freshTable : MethodName := ⟨RX0, "freshTable", "(II)Ljava/lang/Object;"⟩
def dkwX0_freshTable_1 : List UInt8 := [44, 176]
abbrev dktX0_freshTable_1 : List UInt8 := dkwX0_freshTable_1 ++ []
def dkwX0_freshTable_0 : List UInt8 := [26, 189, 0, 56, 77, 3, 62, 29, 26, 162, 0, 15, 44, 29, 27, 188, 10, 83, 132, 3, 1, 167, 255, 242]
abbrev dktX0_freshTable_0 : List UInt8 := dkwX0_freshTable_0 ++ dktX0_freshTable_1
theorem dksX0_freshTable_0 : cX0_freshTable.data.toList.drop 0 = dktX0_freshTable_0 := by decide +kernel
theorem dksX0_freshTable_1 : cX0_freshTable.data.toList.drop 24 = dktX0_freshTable_1 := dk_seg dksX0_freshTable_0 24 rfl rfl
theorem dX0_freshTable_0 : decode cX0_freshTable 0 = .ok (.iload_n 0, 1) := dk_26 (dk_at dksX0_freshTable_0 0 rfl rfl)
theorem dX0_freshTable_1 : decode cX0_freshTable 1 = .ok (.anewarray 56, 3) := dk_189 0 56 (dk_at dksX0_freshTable_0 1 rfl rfl)
theorem dX0_freshTable_4 : decode cX0_freshTable 4 = .ok (.astore_n 2, 1) := dk_77 (dk_at dksX0_freshTable_0 4 rfl rfl)
theorem dX0_freshTable_5 : decode cX0_freshTable 5 = .ok (.iconst 0, 1) := dk_3 (dk_at dksX0_freshTable_0 5 rfl rfl)
theorem dX0_freshTable_6 : decode cX0_freshTable 6 = .ok (.istore_n 3, 1) := dk_62 (dk_at dksX0_freshTable_0 6 rfl rfl)
theorem dX0_freshTable_7 : decode cX0_freshTable 7 = .ok (.iload_n 3, 1) := dk_29 (dk_at dksX0_freshTable_0 7 rfl rfl)
theorem dX0_freshTable_8 : decode cX0_freshTable 8 = .ok (.iload_n 0, 1) := dk_26 (dk_at dksX0_freshTable_0 8 rfl rfl)
theorem dX0_freshTable_9 : decode cX0_freshTable 9 = .ok (.if_icmp .ge 15, 3) := dk_162 0 15 (dk_at dksX0_freshTable_0 9 rfl rfl)
theorem dX0_freshTable_12 : decode cX0_freshTable 12 = .ok (.aload_n 2, 1) := dk_44 (dk_at dksX0_freshTable_0 12 rfl rfl)
theorem dX0_freshTable_13 : decode cX0_freshTable 13 = .ok (.iload_n 3, 1) := dk_29 (dk_at dksX0_freshTable_0 13 rfl rfl)
theorem dX0_freshTable_14 : decode cX0_freshTable 14 = .ok (.iload_n 1, 1) := dk_27 (dk_at dksX0_freshTable_0 14 rfl rfl)
theorem dX0_freshTable_15 : decode cX0_freshTable 15 = .ok (.newarray .int, 2) := dk_188_10 (dk_at dksX0_freshTable_0 15 rfl rfl)
theorem dX0_freshTable_17 : decode cX0_freshTable 17 = .ok (.aastore, 1) := dk_83 (dk_at dksX0_freshTable_0 17 rfl rfl)
theorem dX0_freshTable_18 : decode cX0_freshTable 18 = .ok (.iinc 3 1, 3) := dk_132 3 1 (dk_at dksX0_freshTable_0 18 rfl rfl)
theorem dX0_freshTable_21 : decode cX0_freshTable 21 = .ok (.goto (-14), 3) := dk_167 255 242 (dk_at dksX0_freshTable_0 21 rfl rfl)
theorem dX0_freshTable_24 : decode cX0_freshTable 24 = .ok (.aload_n 2, 1) := dk_44 (dk_at dksX0_freshTable_1 0 rfl rfl)
theorem dX0_freshTable_25 : decode cX0_freshTable 25 = .ok (.areturn, 1) := dk_176 (dk_at dksX0_freshTable_1 1 rfl rfl)
abbrev cX0_fresh : ByteArray := prog_1_method_7_code
def yX0_fresh : MethodName := ⟨RX0, "fresh", "(II)Ljava/lang/Object;"⟩
def dkwX0_fresh_2 : List UInt8 := [27, 188, 8, 176, 27, 188, 10, 176, 27, 188, 11, 176, 27, 189, 0, 56, 176, 27, 189, 0, 60, 176]
abbrev dktX0_fresh_2 : List UInt8 := dkwX0_fresh_2 ++ []
def dkwX0_fresh_1 : List UInt8 := [170, 0, 0, 0, 0, 0, 52, 0, 0, 0, 0, 0, 0, 0, 4, 0, 0, 0, 35, 0, 0, 0, 39, 0, 0, 0, 43, 0, 0, 0, 52, 0, 0, 0, 47]
abbrev dktX0_fresh_1 : List UInt8 := dkwX0_fresh_1 ++ dktX0_fresh_2
def dkwX0_fresh_0 : List UInt8 := [26]
abbrev dktX0_fresh_0 : List UInt8 := dkwX0_fresh_0 ++ dktX0_fresh_1
theorem dksX0_fresh_0 : cX0_fresh.data.toList.drop 0 = dktX0_fresh_0 := by decide +kernel
theorem dksX0_fresh_1 : cX0_fresh.data.toList.drop 1 = dktX0_fresh_1 := dk_seg dksX0_fresh_0 1 rfl rfl
theorem dksX0_fresh_2 : cX0_fresh.data.toList.drop 36 = dktX0_fresh_2 := dk_seg dksX0_fresh_1 35 rfl rfl
theorem dX0_fresh_0 : decode cX0_fresh 0 = .ok (.iload_n 0, 1) := dk_26 (dk_at dksX0_fresh_0 0 rfl rfl)
theorem dX0_fresh_1 : decode cX0_fresh 1 = .ok (.tableswitch 52 0 4 #[35, 39, 43, 52, 47], 35) := by decide +kernel
theorem dX0_fresh_36 : decode cX0_fresh 36 = .ok (.iload_n 1, 1) := dk_27 (dk_at dksX0_fresh_2 0 rfl rfl)
theorem dX0_fresh_37 : decode cX0_fresh 37 = .ok (.newarray .byte, 2) := dk_188_8 (dk_at dksX0_fresh_2 1 rfl rfl)
theorem dX0_fresh_39 : decode cX0_fresh 39 = .ok (.areturn, 1) := dk_176 (dk_at dksX0_fresh_2 3 rfl rfl)
theorem dX0_fresh_40 : decode cX0_fresh 40 = .ok (.iload_n 1, 1) := dk_27 (dk_at dksX0_fresh_2 4 rfl rfl)
theorem dX0_fresh_41 : decode cX0_fresh 41 = .ok (.newarray .int, 2) := dk_188_10 (dk_at dksX0_fresh_2 5 rfl rfl)
theorem dX0_fresh_43 : decode cX0_fresh 43 = .ok (.areturn, 1) := dk_176 (dk_at dksX0_fresh_2 7 rfl rfl)
theorem dX0_fresh_44 : decode cX0_fresh 44 = .ok (.iload_n 1, 1) := dk_27 (dk_at dksX0_fresh_2 8 rfl rfl)
theorem dX0_fresh_45 : decode cX0_fresh 45 = .ok (.newarray .long, 2) := dk_188_11 (dk_at dksX0_fresh_2 9 rfl rfl)
theorem dX0_fresh_47 : decode cX0_fresh 47 = .ok (.areturn, 1) := dk_176 (dk_at dksX0_fresh_2 11 rfl rfl)
theorem dX0_fresh_48 : decode cX0_fresh 48 = .ok (.iload_n 1, 1) := dk_27 (dk_at dksX0_fresh_2 12 rfl rfl)
theorem dX0_fresh_49 : decode cX0_fresh 49 = .ok (.anewarray 56, 3) := dk_189 0 56 (dk_at dksX0_fresh_2 13 rfl rfl)
theorem dX0_fresh_52 : decode cX0_fresh 52 = .ok (.areturn, 1) := dk_176 (dk_at dksX0_fresh_2 16 rfl rfl)
theorem dX0_fresh_53 : decode cX0_fresh 53 = .ok (.iload_n 1, 1) := dk_27 (dk_at dksX0_fresh_2 17 rfl rfl)
theorem dX0_fresh_54 : decode cX0_fresh 54 = .ok (.anewarray 60, 3) := dk_189 0 60 (dk_at dksX0_fresh_2 18 rfl rfl)
theorem dX0_fresh_57 : decode cX0_fresh 57 = .ok (.areturn, 1) := dk_176 (dk_at dksX0_fresh_2 21 rfl rfl)
abbrev cX0_keep : ByteArray := prog_1_method_13_code
def yX0_keep : MethodName := ⟨RX0, "keep", "(LArrayMaker$Shape;Ljava/lang/Object;)I"⟩
def dkwX0_keep_1 : List UInt8 := [50, 44, 181, 0, 101, 42, 3, 181, 0, 44, 42, 89, 180, 0, 51, 90, 4, 96, 181, 0, 51, 172]
abbrev dktX0_keep_1 : List UInt8 := dkwX0_keep_1 ++ []
def dkwX0_keep_0 : List UInt8 := [42, 180, 0, 18, 42, 180, 0, 51, 50, 180, 0, 96, 43, 182, 0, 97, 42, 180, 0, 18, 42, 180, 0, 51]
abbrev dktX0_keep_0 : List UInt8 := dkwX0_keep_0 ++ dktX0_keep_1
theorem dksX0_keep_0 : cX0_keep.data.toList.drop 0 = dktX0_keep_0 := by decide +kernel
theorem dksX0_keep_1 : cX0_keep.data.toList.drop 24 = dktX0_keep_1 := dk_seg dksX0_keep_0 24 rfl rfl
theorem dX0_keep_0 : decode cX0_keep 0 = .ok (.aload_n 0, 1) := dk_42 (dk_at dksX0_keep_0 0 rfl rfl)
theorem dX0_keep_1 : decode cX0_keep 1 = .ok (.getfield 18, 3) := dk_180 0 18 (dk_at dksX0_keep_0 1 rfl rfl)
theorem dX0_keep_4 : decode cX0_keep 4 = .ok (.aload_n 0, 1) := dk_42 (dk_at dksX0_keep_0 4 rfl rfl)
theorem dX0_keep_5 : decode cX0_keep 5 = .ok (.getfield 51, 3) := dk_180 0 51 (dk_at dksX0_keep_0 5 rfl rfl)
theorem dX0_keep_8 : decode cX0_keep 8 = .ok (.aaload, 1) := dk_50 (dk_at dksX0_keep_0 8 rfl rfl)
theorem dX0_keep_9 : decode cX0_keep 9 = .ok (.getfield 96, 3) := dk_180 0 96 (dk_at dksX0_keep_0 9 rfl rfl)
theorem dX0_keep_12 : decode cX0_keep 12 = .ok (.aload_n 1, 1) := dk_43 (dk_at dksX0_keep_0 12 rfl rfl)
theorem dX0_keep_13 : decode cX0_keep 13 = .ok (.invokevirtual 97, 3) := dk_182 0 97 (dk_at dksX0_keep_0 13 rfl rfl)
theorem dX0_keep_16 : decode cX0_keep 16 = .ok (.aload_n 0, 1) := dk_42 (dk_at dksX0_keep_0 16 rfl rfl)
theorem dX0_keep_17 : decode cX0_keep 17 = .ok (.getfield 18, 3) := dk_180 0 18 (dk_at dksX0_keep_0 17 rfl rfl)
theorem dX0_keep_20 : decode cX0_keep 20 = .ok (.aload_n 0, 1) := dk_42 (dk_at dksX0_keep_0 20 rfl rfl)
theorem dX0_keep_21 : decode cX0_keep 21 = .ok (.getfield 51, 3) := dk_180 0 51 (dk_at dksX0_keep_0 21 rfl rfl)
theorem dX0_keep_24 : decode cX0_keep 24 = .ok (.aaload, 1) := dk_50 (dk_at dksX0_keep_1 0 rfl rfl)
theorem dX0_keep_25 : decode cX0_keep 25 = .ok (.aload_n 2, 1) := dk_44 (dk_at dksX0_keep_1 1 rfl rfl)
theorem dX0_keep_26 : decode cX0_keep 26 = .ok (.putfield 101, 3) := dk_181 0 101 (dk_at dksX0_keep_1 2 rfl rfl)
theorem dX0_keep_29 : decode cX0_keep 29 = .ok (.aload_n 0, 1) := dk_42 (dk_at dksX0_keep_1 5 rfl rfl)
theorem dX0_keep_30 : decode cX0_keep 30 = .ok (.iconst 0, 1) := dk_3 (dk_at dksX0_keep_1 6 rfl rfl)
theorem dX0_keep_31 : decode cX0_keep 31 = .ok (.putfield 44, 3) := dk_181 0 44 (dk_at dksX0_keep_1 7 rfl rfl)
theorem dX0_keep_34 : decode cX0_keep 34 = .ok (.aload_n 0, 1) := dk_42 (dk_at dksX0_keep_1 10 rfl rfl)
theorem dX0_keep_35 : decode cX0_keep 35 = .ok (.dup, 1) := dk_89 (dk_at dksX0_keep_1 11 rfl rfl)
theorem dX0_keep_36 : decode cX0_keep 36 = .ok (.getfield 51, 3) := dk_180 0 51 (dk_at dksX0_keep_1 12 rfl rfl)
theorem dX0_keep_39 : decode cX0_keep 39 = .ok (.dup_x1, 1) := dk_90 (dk_at dksX0_keep_1 15 rfl rfl)
theorem dX0_keep_40 : decode cX0_keep 40 = .ok (.iconst 1, 1) := dk_4 (dk_at dksX0_keep_1 16 rfl rfl)
theorem dX0_keep_41 : decode cX0_keep 41 = .ok (.iadd, 1) := dk_96 (dk_at dksX0_keep_1 17 rfl rfl)
theorem dX0_keep_42 : decode cX0_keep 42 = .ok (.putfield 51, 3) := dk_181 0 51 (dk_at dksX0_keep_1 18 rfl rfl)
theorem dX0_keep_45 : decode cX0_keep 45 = .ok (.ireturn, 1) := dk_172 (dk_at dksX0_keep_1 21 rfl rfl)
abbrev cX0_raw : ByteArray := prog_1_method_20_code
def yX0_raw : MethodName := ⟨RX0, "raw", "(II)I"⟩
def dkwX0_raw_5 : List UInt8 := [182, 0, 47, 172]
abbrev dktX0_raw_5 : List UInt8 := dkwX0_raw_5 ++ []
def dkwX0_raw_4 : List UInt8 := [181, 0, 101, 42, 42, 89, 180, 0, 51, 90, 4, 96, 181, 0, 51, 182, 0, 114, 172, 78, 42, 7]
abbrev dktX0_raw_4 : List UInt8 := dkwX0_raw_4 ++ dktX0_raw_5
def dkwX0_raw_3 : List UInt8 := [3, 3, 79, 25, 4, 180, 0, 111, 3, 28, 4, 100, 79, 42, 180, 0, 18, 42, 180, 0, 51, 50, 45]
abbrev dktX0_raw_3 : List UInt8 := dkwX0_raw_3 ++ dktX0_raw_4
def dkwX0_raw_2 : List UInt8 := [180, 0, 18, 42, 180, 0, 51, 50, 180, 0, 96, 58, 4, 25, 4, 4, 181, 0, 108, 25, 4, 180, 0, 105]
abbrev dktX0_raw_2 : List UInt8 := dkwX0_raw_2 ++ dktX0_raw_3
def dkwX0_raw_1 : List UInt8 := [172, 27, 28, 184, 0, 134, 78, 42, 180, 0, 51, 16, 24, 160, 0, 10, 42, 16, 8, 182, 0, 47, 172, 42]
abbrev dktX0_raw_1 : List UInt8 := dkwX0_raw_1 ++ dktX0_raw_2
def dkwX0_raw_0 : List UInt8 := [27, 155, 0, 8, 27, 6, 164, 0, 6, 18, 119, 172, 28, 17, 1, 244, 164, 0, 9, 42, 8, 182, 0, 47]
abbrev dktX0_raw_0 : List UInt8 := dkwX0_raw_0 ++ dktX0_raw_1
theorem dksX0_raw_0 : cX0_raw.data.toList.drop 0 = dktX0_raw_0 := by decide +kernel
theorem dksX0_raw_1 : cX0_raw.data.toList.drop 24 = dktX0_raw_1 := dk_seg dksX0_raw_0 24 rfl rfl
theorem dksX0_raw_2 : cX0_raw.data.toList.drop 48 = dktX0_raw_2 := dk_seg dksX0_raw_1 24 rfl rfl
theorem dksX0_raw_3 : cX0_raw.data.toList.drop 72 = dktX0_raw_3 := dk_seg dksX0_raw_2 24 rfl rfl
theorem dksX0_raw_4 : cX0_raw.data.toList.drop 95 = dktX0_raw_4 := dk_seg dksX0_raw_3 23 rfl rfl
theorem dksX0_raw_5 : cX0_raw.data.toList.drop 117 = dktX0_raw_5 := dk_seg dksX0_raw_4 22 rfl rfl
theorem dX0_raw_0 : decode cX0_raw 0 = .ok (.iload_n 1, 1) := dk_27 (dk_at dksX0_raw_0 0 rfl rfl)
theorem dX0_raw_1 : decode cX0_raw 1 = .ok (.ifCond .lt 8, 3) := dk_155 0 8 (dk_at dksX0_raw_0 1 rfl rfl)
theorem dX0_raw_4 : decode cX0_raw 4 = .ok (.iload_n 1, 1) := dk_27 (dk_at dksX0_raw_0 4 rfl rfl)
theorem dX0_raw_5 : decode cX0_raw 5 = .ok (.iconst 3, 1) := dk_6 (dk_at dksX0_raw_0 5 rfl rfl)
theorem dX0_raw_6 : decode cX0_raw 6 = .ok (.if_icmp .le 6, 3) := dk_164 0 6 (dk_at dksX0_raw_0 6 rfl rfl)
theorem dX0_raw_9 : decode cX0_raw 9 = .ok (.ldc 119, 2) := dk_18 119 (dk_at dksX0_raw_0 9 rfl rfl)
theorem dX0_raw_11 : decode cX0_raw 11 = .ok (.ireturn, 1) := dk_172 (dk_at dksX0_raw_0 11 rfl rfl)
theorem dX0_raw_12 : decode cX0_raw 12 = .ok (.iload_n 2, 1) := dk_28 (dk_at dksX0_raw_0 12 rfl rfl)
theorem dX0_raw_13 : decode cX0_raw 13 = .ok (.sipush 500, 3) := dk_17 1 244 (dk_at dksX0_raw_0 13 rfl rfl)
theorem dX0_raw_16 : decode cX0_raw 16 = .ok (.if_icmp .le 9, 3) := dk_164 0 9 (dk_at dksX0_raw_0 16 rfl rfl)
theorem dX0_raw_19 : decode cX0_raw 19 = .ok (.aload_n 0, 1) := dk_42 (dk_at dksX0_raw_0 19 rfl rfl)
theorem dX0_raw_20 : decode cX0_raw 20 = .ok (.iconst 5, 1) := dk_8 (dk_at dksX0_raw_0 20 rfl rfl)
theorem dX0_raw_21 : decode cX0_raw 21 = .ok (.invokevirtual 47, 3) := dk_182 0 47 (dk_at dksX0_raw_0 21 rfl rfl)
theorem dX0_raw_24 : decode cX0_raw 24 = .ok (.ireturn, 1) := dk_172 (dk_at dksX0_raw_1 0 rfl rfl)
theorem dX0_raw_25 : decode cX0_raw 25 = .ok (.iload_n 1, 1) := dk_27 (dk_at dksX0_raw_1 1 rfl rfl)
theorem dX0_raw_26 : decode cX0_raw 26 = .ok (.iload_n 2, 1) := dk_28 (dk_at dksX0_raw_1 2 rfl rfl)
theorem dX0_raw_27 : decode cX0_raw 27 = .ok (.invokestatic 134, 3) := dk_184 0 134 (dk_at dksX0_raw_1 3 rfl rfl)
theorem dX0_raw_30 : decode cX0_raw 30 = .ok (.astore_n 3, 1) := dk_78 (dk_at dksX0_raw_1 6 rfl rfl)
theorem dX0_raw_31 : decode cX0_raw 31 = .ok (.aload_n 0, 1) := dk_42 (dk_at dksX0_raw_1 7 rfl rfl)
theorem dX0_raw_32 : decode cX0_raw 32 = .ok (.getfield 51, 3) := dk_180 0 51 (dk_at dksX0_raw_1 8 rfl rfl)
theorem dX0_raw_35 : decode cX0_raw 35 = .ok (.bipush 24, 2) := dk_16 24 (dk_at dksX0_raw_1 11 rfl rfl)
theorem dX0_raw_37 : decode cX0_raw 37 = .ok (.if_icmp .ne 10, 3) := dk_160 0 10 (dk_at dksX0_raw_1 13 rfl rfl)
theorem dX0_raw_40 : decode cX0_raw 40 = .ok (.aload_n 0, 1) := dk_42 (dk_at dksX0_raw_1 16 rfl rfl)
theorem dX0_raw_41 : decode cX0_raw 41 = .ok (.bipush 8, 2) := dk_16 8 (dk_at dksX0_raw_1 17 rfl rfl)
theorem dX0_raw_43 : decode cX0_raw 43 = .ok (.invokevirtual 47, 3) := dk_182 0 47 (dk_at dksX0_raw_1 19 rfl rfl)
theorem dX0_raw_46 : decode cX0_raw 46 = .ok (.ireturn, 1) := dk_172 (dk_at dksX0_raw_1 22 rfl rfl)
theorem dX0_raw_47 : decode cX0_raw 47 = .ok (.aload_n 0, 1) := dk_42 (dk_at dksX0_raw_1 23 rfl rfl)
theorem dX0_raw_48 : decode cX0_raw 48 = .ok (.getfield 18, 3) := dk_180 0 18 (dk_at dksX0_raw_2 0 rfl rfl)
theorem dX0_raw_51 : decode cX0_raw 51 = .ok (.aload_n 0, 1) := dk_42 (dk_at dksX0_raw_2 3 rfl rfl)
theorem dX0_raw_52 : decode cX0_raw 52 = .ok (.getfield 51, 3) := dk_180 0 51 (dk_at dksX0_raw_2 4 rfl rfl)
theorem dX0_raw_55 : decode cX0_raw 55 = .ok (.aaload, 1) := dk_50 (dk_at dksX0_raw_2 7 rfl rfl)
theorem dX0_raw_56 : decode cX0_raw 56 = .ok (.getfield 96, 3) := dk_180 0 96 (dk_at dksX0_raw_2 8 rfl rfl)
theorem dX0_raw_59 : decode cX0_raw 59 = .ok (.astore 4, 2) := dk_58 4 (dk_at dksX0_raw_2 11 rfl rfl)
theorem dX0_raw_61 : decode cX0_raw 61 = .ok (.aload 4, 2) := dk_25 4 (dk_at dksX0_raw_2 13 rfl rfl)
theorem dX0_raw_63 : decode cX0_raw 63 = .ok (.iconst 1, 1) := dk_4 (dk_at dksX0_raw_2 15 rfl rfl)
theorem dX0_raw_64 : decode cX0_raw 64 = .ok (.putfield 108, 3) := dk_181 0 108 (dk_at dksX0_raw_2 16 rfl rfl)
theorem dX0_raw_67 : decode cX0_raw 67 = .ok (.aload 4, 2) := dk_25 4 (dk_at dksX0_raw_2 19 rfl rfl)
theorem dX0_raw_69 : decode cX0_raw 69 = .ok (.getfield 105, 3) := dk_180 0 105 (dk_at dksX0_raw_2 21 rfl rfl)
theorem dX0_raw_72 : decode cX0_raw 72 = .ok (.iconst 0, 1) := dk_3 (dk_at dksX0_raw_3 0 rfl rfl)
theorem dX0_raw_73 : decode cX0_raw 73 = .ok (.iconst 0, 1) := dk_3 (dk_at dksX0_raw_3 1 rfl rfl)
theorem dX0_raw_74 : decode cX0_raw 74 = .ok (.iastore, 1) := dk_79 (dk_at dksX0_raw_3 2 rfl rfl)
theorem dX0_raw_75 : decode cX0_raw 75 = .ok (.aload 4, 2) := dk_25 4 (dk_at dksX0_raw_3 3 rfl rfl)
theorem dX0_raw_77 : decode cX0_raw 77 = .ok (.getfield 111, 3) := dk_180 0 111 (dk_at dksX0_raw_3 5 rfl rfl)
theorem dX0_raw_80 : decode cX0_raw 80 = .ok (.iconst 0, 1) := dk_3 (dk_at dksX0_raw_3 8 rfl rfl)
theorem dX0_raw_81 : decode cX0_raw 81 = .ok (.iload_n 2, 1) := dk_28 (dk_at dksX0_raw_3 9 rfl rfl)
theorem dX0_raw_82 : decode cX0_raw 82 = .ok (.iconst 1, 1) := dk_4 (dk_at dksX0_raw_3 10 rfl rfl)
theorem dX0_raw_83 : decode cX0_raw 83 = .ok (.isub, 1) := dk_100 (dk_at dksX0_raw_3 11 rfl rfl)
theorem dX0_raw_84 : decode cX0_raw 84 = .ok (.iastore, 1) := dk_79 (dk_at dksX0_raw_3 12 rfl rfl)
theorem dX0_raw_85 : decode cX0_raw 85 = .ok (.aload_n 0, 1) := dk_42 (dk_at dksX0_raw_3 13 rfl rfl)
theorem dX0_raw_86 : decode cX0_raw 86 = .ok (.getfield 18, 3) := dk_180 0 18 (dk_at dksX0_raw_3 14 rfl rfl)
theorem dX0_raw_89 : decode cX0_raw 89 = .ok (.aload_n 0, 1) := dk_42 (dk_at dksX0_raw_3 17 rfl rfl)
theorem dX0_raw_90 : decode cX0_raw 90 = .ok (.getfield 51, 3) := dk_180 0 51 (dk_at dksX0_raw_3 18 rfl rfl)
theorem dX0_raw_93 : decode cX0_raw 93 = .ok (.aaload, 1) := dk_50 (dk_at dksX0_raw_3 21 rfl rfl)
theorem dX0_raw_94 : decode cX0_raw 94 = .ok (.aload_n 3, 1) := dk_45 (dk_at dksX0_raw_3 22 rfl rfl)
theorem dX0_raw_95 : decode cX0_raw 95 = .ok (.putfield 101, 3) := dk_181 0 101 (dk_at dksX0_raw_4 0 rfl rfl)
theorem dX0_raw_98 : decode cX0_raw 98 = .ok (.aload_n 0, 1) := dk_42 (dk_at dksX0_raw_4 3 rfl rfl)
theorem dX0_raw_99 : decode cX0_raw 99 = .ok (.aload_n 0, 1) := dk_42 (dk_at dksX0_raw_4 4 rfl rfl)
theorem dX0_raw_100 : decode cX0_raw 100 = .ok (.dup, 1) := dk_89 (dk_at dksX0_raw_4 5 rfl rfl)
theorem dX0_raw_101 : decode cX0_raw 101 = .ok (.getfield 51, 3) := dk_180 0 51 (dk_at dksX0_raw_4 6 rfl rfl)
theorem dX0_raw_104 : decode cX0_raw 104 = .ok (.dup_x1, 1) := dk_90 (dk_at dksX0_raw_4 9 rfl rfl)
theorem dX0_raw_105 : decode cX0_raw 105 = .ok (.iconst 1, 1) := dk_4 (dk_at dksX0_raw_4 10 rfl rfl)
theorem dX0_raw_106 : decode cX0_raw 106 = .ok (.iadd, 1) := dk_96 (dk_at dksX0_raw_4 11 rfl rfl)
theorem dX0_raw_107 : decode cX0_raw 107 = .ok (.putfield 51, 3) := dk_181 0 51 (dk_at dksX0_raw_4 12 rfl rfl)
theorem dX0_raw_110 : decode cX0_raw 110 = .ok (.invokevirtual 114, 3) := dk_182 0 114 (dk_at dksX0_raw_4 15 rfl rfl)
theorem dX0_raw_113 : decode cX0_raw 113 = .ok (.ireturn, 1) := dk_172 (dk_at dksX0_raw_4 18 rfl rfl)
theorem dX0_raw_114 : decode cX0_raw 114 = .ok (.astore_n 3, 1) := dk_78 (dk_at dksX0_raw_4 19 rfl rfl)
theorem dX0_raw_115 : decode cX0_raw 115 = .ok (.aload_n 0, 1) := dk_42 (dk_at dksX0_raw_4 20 rfl rfl)
theorem dX0_raw_116 : decode cX0_raw 116 = .ok (.iconst 4, 1) := dk_7 (dk_at dksX0_raw_4 21 rfl rfl)
theorem dX0_raw_117 : decode cX0_raw 117 = .ok (.invokevirtual 47, 3) := dk_182 0 47 (dk_at dksX0_raw_5 0 rfl rfl)
theorem dX0_raw_120 : decode cX0_raw 120 = .ok (.ireturn, 1) := dk_172 (dk_at dksX0_raw_5 3 rfl rfl)
abbrev cX0_see : ByteArray := prog_1_method_21_code
def yX0_see : MethodName := ⟨RX0, "see", "(I)I"⟩
def dkwX0_see_4 : List UInt8 := [180, 0, 10, 44, 182, 0, 137, 62, 42, 180, 0, 10, 3, 181, 0, 108, 29, 172]
abbrev dktX0_see_4 : List UInt8 := dkwX0_see_4 ++ []
def dkwX0_see_3 : List UInt8 := [182, 0, 47, 172, 42, 180, 0, 51, 16, 24, 160, 0, 10, 42, 16, 8, 182, 0, 47, 172, 42, 42]
abbrev dktX0_see_3 : List UInt8 := dkwX0_see_3 ++ dktX0_see_4
def dkwX0_see_2 : List UInt8 := [42, 16, 9, 182, 0, 47, 172, 42, 180, 0, 10, 182, 0, 120, 44, 184, 0, 147, 159, 0, 10, 42, 16, 10]
abbrev dktX0_see_2 : List UInt8 := dkwX0_see_2 ++ dktX0_see_3
def dkwX0_see_1 : List UInt8 := [77, 44, 193, 0, 58, 153, 0, 9, 42, 5, 182, 0, 47, 172, 42, 180, 0, 10, 180, 0, 108, 154, 0, 10]
abbrev dktX0_see_1 : List UInt8 := dkwX0_see_1 ++ dktX0_see_2
def dkwX0_see_0 : List UInt8 := [42, 27, 182, 0, 143, 154, 0, 10, 42, 16, 7, 182, 0, 47, 172, 42, 180, 0, 18, 27, 50, 180, 0, 101]
abbrev dktX0_see_0 : List UInt8 := dkwX0_see_0 ++ dktX0_see_1
theorem dksX0_see_0 : cX0_see.data.toList.drop 0 = dktX0_see_0 := by decide +kernel
theorem dksX0_see_1 : cX0_see.data.toList.drop 24 = dktX0_see_1 := dk_seg dksX0_see_0 24 rfl rfl
theorem dksX0_see_2 : cX0_see.data.toList.drop 48 = dktX0_see_2 := dk_seg dksX0_see_1 24 rfl rfl
theorem dksX0_see_3 : cX0_see.data.toList.drop 72 = dktX0_see_3 := dk_seg dksX0_see_2 24 rfl rfl
theorem dksX0_see_4 : cX0_see.data.toList.drop 94 = dktX0_see_4 := dk_seg dksX0_see_3 22 rfl rfl
theorem dX0_see_0 : decode cX0_see 0 = .ok (.aload_n 0, 1) := dk_42 (dk_at dksX0_see_0 0 rfl rfl)
theorem dX0_see_1 : decode cX0_see 1 = .ok (.iload_n 1, 1) := dk_27 (dk_at dksX0_see_0 1 rfl rfl)
theorem dX0_see_2 : decode cX0_see 2 = .ok (.invokevirtual 143, 3) := dk_182 0 143 (dk_at dksX0_see_0 2 rfl rfl)
theorem dX0_see_5 : decode cX0_see 5 = .ok (.ifCond .ne 10, 3) := dk_154 0 10 (dk_at dksX0_see_0 5 rfl rfl)
theorem dX0_see_8 : decode cX0_see 8 = .ok (.aload_n 0, 1) := dk_42 (dk_at dksX0_see_0 8 rfl rfl)
theorem dX0_see_9 : decode cX0_see 9 = .ok (.bipush 7, 2) := dk_16 7 (dk_at dksX0_see_0 9 rfl rfl)
theorem dX0_see_11 : decode cX0_see 11 = .ok (.invokevirtual 47, 3) := dk_182 0 47 (dk_at dksX0_see_0 11 rfl rfl)
theorem dX0_see_14 : decode cX0_see 14 = .ok (.ireturn, 1) := dk_172 (dk_at dksX0_see_0 14 rfl rfl)
theorem dX0_see_15 : decode cX0_see 15 = .ok (.aload_n 0, 1) := dk_42 (dk_at dksX0_see_0 15 rfl rfl)
theorem dX0_see_16 : decode cX0_see 16 = .ok (.getfield 18, 3) := dk_180 0 18 (dk_at dksX0_see_0 16 rfl rfl)
theorem dX0_see_19 : decode cX0_see 19 = .ok (.iload_n 1, 1) := dk_27 (dk_at dksX0_see_0 19 rfl rfl)
theorem dX0_see_20 : decode cX0_see 20 = .ok (.aaload, 1) := dk_50 (dk_at dksX0_see_0 20 rfl rfl)
theorem dX0_see_21 : decode cX0_see 21 = .ok (.getfield 101, 3) := dk_180 0 101 (dk_at dksX0_see_0 21 rfl rfl)
theorem dX0_see_24 : decode cX0_see 24 = .ok (.astore_n 2, 1) := dk_77 (dk_at dksX0_see_1 0 rfl rfl)
theorem dX0_see_25 : decode cX0_see 25 = .ok (.aload_n 2, 1) := dk_44 (dk_at dksX0_see_1 1 rfl rfl)
theorem dX0_see_26 : decode cX0_see 26 = .ok (.instanceof 58, 3) := dk_193 0 58 (dk_at dksX0_see_1 2 rfl rfl)
theorem dX0_see_29 : decode cX0_see 29 = .ok (.ifCond .eq 9, 3) := dk_153 0 9 (dk_at dksX0_see_1 5 rfl rfl)
theorem dX0_see_32 : decode cX0_see 32 = .ok (.aload_n 0, 1) := dk_42 (dk_at dksX0_see_1 8 rfl rfl)
theorem dX0_see_33 : decode cX0_see 33 = .ok (.iconst 2, 1) := dk_5 (dk_at dksX0_see_1 9 rfl rfl)
theorem dX0_see_34 : decode cX0_see 34 = .ok (.invokevirtual 47, 3) := dk_182 0 47 (dk_at dksX0_see_1 10 rfl rfl)
theorem dX0_see_37 : decode cX0_see 37 = .ok (.ireturn, 1) := dk_172 (dk_at dksX0_see_1 13 rfl rfl)
theorem dX0_see_38 : decode cX0_see 38 = .ok (.aload_n 0, 1) := dk_42 (dk_at dksX0_see_1 14 rfl rfl)
theorem dX0_see_39 : decode cX0_see 39 = .ok (.getfield 10, 3) := dk_180 0 10 (dk_at dksX0_see_1 15 rfl rfl)
theorem dX0_see_42 : decode cX0_see 42 = .ok (.getfield 108, 3) := dk_180 0 108 (dk_at dksX0_see_1 18 rfl rfl)
theorem dX0_see_45 : decode cX0_see 45 = .ok (.ifCond .ne 10, 3) := dk_154 0 10 (dk_at dksX0_see_1 21 rfl rfl)
theorem dX0_see_48 : decode cX0_see 48 = .ok (.aload_n 0, 1) := dk_42 (dk_at dksX0_see_2 0 rfl rfl)
theorem dX0_see_49 : decode cX0_see 49 = .ok (.bipush 9, 2) := dk_16 9 (dk_at dksX0_see_2 1 rfl rfl)
theorem dX0_see_51 : decode cX0_see 51 = .ok (.invokevirtual 47, 3) := dk_182 0 47 (dk_at dksX0_see_2 3 rfl rfl)
theorem dX0_see_54 : decode cX0_see 54 = .ok (.ireturn, 1) := dk_172 (dk_at dksX0_see_2 6 rfl rfl)
theorem dX0_see_55 : decode cX0_see 55 = .ok (.aload_n 0, 1) := dk_42 (dk_at dksX0_see_2 7 rfl rfl)
theorem dX0_see_56 : decode cX0_see 56 = .ok (.getfield 10, 3) := dk_180 0 10 (dk_at dksX0_see_2 8 rfl rfl)
theorem dX0_see_59 : decode cX0_see 59 = .ok (.invokevirtual 120, 3) := dk_182 0 120 (dk_at dksX0_see_2 11 rfl rfl)
theorem dX0_see_62 : decode cX0_see 62 = .ok (.aload_n 2, 1) := dk_44 (dk_at dksX0_see_2 14 rfl rfl)
theorem dX0_see_63 : decode cX0_see 63 = .ok (.invokestatic 147, 3) := dk_184 0 147 (dk_at dksX0_see_2 15 rfl rfl)
theorem dX0_see_66 : decode cX0_see 66 = .ok (.if_icmp .eq 10, 3) := dk_159 0 10 (dk_at dksX0_see_2 18 rfl rfl)
theorem dX0_see_69 : decode cX0_see 69 = .ok (.aload_n 0, 1) := dk_42 (dk_at dksX0_see_2 21 rfl rfl)
theorem dX0_see_70 : decode cX0_see 70 = .ok (.bipush 10, 2) := dk_16 10 (dk_at dksX0_see_2 22 rfl rfl)
theorem dX0_see_72 : decode cX0_see 72 = .ok (.invokevirtual 47, 3) := dk_182 0 47 (dk_at dksX0_see_3 0 rfl rfl)
theorem dX0_see_75 : decode cX0_see 75 = .ok (.ireturn, 1) := dk_172 (dk_at dksX0_see_3 3 rfl rfl)
theorem dX0_see_76 : decode cX0_see 76 = .ok (.aload_n 0, 1) := dk_42 (dk_at dksX0_see_3 4 rfl rfl)
theorem dX0_see_77 : decode cX0_see 77 = .ok (.getfield 51, 3) := dk_180 0 51 (dk_at dksX0_see_3 5 rfl rfl)
theorem dX0_see_80 : decode cX0_see 80 = .ok (.bipush 24, 2) := dk_16 24 (dk_at dksX0_see_3 8 rfl rfl)
theorem dX0_see_82 : decode cX0_see 82 = .ok (.if_icmp .ne 10, 3) := dk_160 0 10 (dk_at dksX0_see_3 10 rfl rfl)
theorem dX0_see_85 : decode cX0_see 85 = .ok (.aload_n 0, 1) := dk_42 (dk_at dksX0_see_3 13 rfl rfl)
theorem dX0_see_86 : decode cX0_see 86 = .ok (.bipush 8, 2) := dk_16 8 (dk_at dksX0_see_3 14 rfl rfl)
theorem dX0_see_88 : decode cX0_see 88 = .ok (.invokevirtual 47, 3) := dk_182 0 47 (dk_at dksX0_see_3 16 rfl rfl)
theorem dX0_see_91 : decode cX0_see 91 = .ok (.ireturn, 1) := dk_172 (dk_at dksX0_see_3 19 rfl rfl)
theorem dX0_see_92 : decode cX0_see 92 = .ok (.aload_n 0, 1) := dk_42 (dk_at dksX0_see_3 20 rfl rfl)
theorem dX0_see_93 : decode cX0_see 93 = .ok (.aload_n 0, 1) := dk_42 (dk_at dksX0_see_3 21 rfl rfl)
theorem dX0_see_94 : decode cX0_see 94 = .ok (.getfield 10, 3) := dk_180 0 10 (dk_at dksX0_see_4 0 rfl rfl)
theorem dX0_see_97 : decode cX0_see 97 = .ok (.aload_n 2, 1) := dk_44 (dk_at dksX0_see_4 3 rfl rfl)
theorem dX0_see_98 : decode cX0_see 98 = .ok (.invokevirtual 137, 3) := dk_182 0 137 (dk_at dksX0_see_4 4 rfl rfl)
theorem dX0_see_101 : decode cX0_see 101 = .ok (.istore_n 3, 1) := dk_62 (dk_at dksX0_see_4 7 rfl rfl)
theorem dX0_see_102 : decode cX0_see 102 = .ok (.aload_n 0, 1) := dk_42 (dk_at dksX0_see_4 8 rfl rfl)
theorem dX0_see_103 : decode cX0_see 103 = .ok (.getfield 10, 3) := dk_180 0 10 (dk_at dksX0_see_4 9 rfl rfl)
theorem dX0_see_106 : decode cX0_see 106 = .ok (.iconst 0, 1) := dk_3 (dk_at dksX0_see_4 12 rfl rfl)
theorem dX0_see_107 : decode cX0_see 107 = .ok (.putfield 108, 3) := dk_181 0 108 (dk_at dksX0_see_4 13 rfl rfl)
theorem dX0_see_110 : decode cX0_see 110 = .ok (.iload_n 3, 1) := dk_29 (dk_at dksX0_see_4 16 rfl rfl)
theorem dX0_see_111 : decode cX0_see 111 = .ok (.ireturn, 1) := dk_172 (dk_at dksX0_see_4 17 rfl rfl)
abbrev cX0_isArray : ByteArray := prog_1_method_5_code
def yX0_isArray : MethodName := ⟨RX0, "isArray", "(I)Z"⟩
def dkwX0_isArray_0 : List UInt8 := [27, 155, 0, 15, 27, 42, 180, 0, 51, 162, 0, 7, 4, 167, 0, 4, 3, 172]
abbrev dktX0_isArray_0 : List UInt8 := dkwX0_isArray_0 ++ []
theorem dksX0_isArray_0 : cX0_isArray.data.toList.drop 0 = dktX0_isArray_0 := by decide +kernel
theorem dX0_isArray_0 : decode cX0_isArray 0 = .ok (.iload_n 1, 1) := dk_27 (dk_at dksX0_isArray_0 0 rfl rfl)
theorem dX0_isArray_1 : decode cX0_isArray 1 = .ok (.ifCond .lt 15, 3) := dk_155 0 15 (dk_at dksX0_isArray_0 1 rfl rfl)
theorem dX0_isArray_4 : decode cX0_isArray 4 = .ok (.iload_n 1, 1) := dk_27 (dk_at dksX0_isArray_0 4 rfl rfl)
theorem dX0_isArray_5 : decode cX0_isArray 5 = .ok (.aload_n 0, 1) := dk_42 (dk_at dksX0_isArray_0 5 rfl rfl)
theorem dX0_isArray_6 : decode cX0_isArray 6 = .ok (.getfield 51, 3) := dk_180 0 51 (dk_at dksX0_isArray_0 6 rfl rfl)
theorem dX0_isArray_9 : decode cX0_isArray 9 = .ok (.if_icmp .ge 7, 3) := dk_162 0 7 (dk_at dksX0_isArray_0 9 rfl rfl)
theorem dX0_isArray_12 : decode cX0_isArray 12 = .ok (.iconst 1, 1) := dk_4 (dk_at dksX0_isArray_0 12 rfl rfl)
theorem dX0_isArray_13 : decode cX0_isArray 13 = .ok (.goto 4, 3) := dk_167 0 4 (dk_at dksX0_isArray_0 13 rfl rfl)
theorem dX0_isArray_16 : decode cX0_isArray 16 = .ok (.iconst 0, 1) := dk_3 (dk_at dksX0_isArray_0 16 rfl rfl)
theorem dX0_isArray_17 : decode cX0_isArray 17 = .ok (.ireturn, 1) := dk_172 (dk_at dksX0_isArray_0 17 rfl rfl)
abbrev cX0_sizeOf : ByteArray := prog_1_method_8_code
def yX0_sizeOf : MethodName := ⟨RX0, "sizeOf", "(Ljava/lang/Object;)I"⟩
def dkwX0_sizeOf_3 : List UInt8 := [42, 192, 0, 66, 190, 172]
abbrev dktX0_sizeOf_3 : List UInt8 := dkwX0_sizeOf_3 ++ []
def dkwX0_sizeOf_2 : List UInt8 := [42, 192, 0, 54, 190, 172, 42, 192, 0, 56, 190, 172, 42, 192, 0, 57, 190, 172, 42, 192, 0, 58, 190, 172]
abbrev dktX0_sizeOf_2 : List UInt8 := dkwX0_sizeOf_2 ++ dktX0_sizeOf_3
def dkwX0_sizeOf_1 : List UInt8 := [170, 0, 0, 0, 0, 0, 0, 60, 0, 0, 0, 0, 0, 0, 0, 4, 0, 0, 0, 36, 0, 0, 0, 42, 0, 0, 0, 48, 0, 0, 0, 60, 0, 0, 0, 54]
abbrev dktX0_sizeOf_1 : List UInt8 := dkwX0_sizeOf_1 ++ dktX0_sizeOf_2
def dkwX0_sizeOf_0 : List UInt8 := [42, 184, 0, 62]
abbrev dktX0_sizeOf_0 : List UInt8 := dkwX0_sizeOf_0 ++ dktX0_sizeOf_1
theorem dksX0_sizeOf_0 : cX0_sizeOf.data.toList.drop 0 = dktX0_sizeOf_0 := by decide +kernel
theorem dksX0_sizeOf_1 : cX0_sizeOf.data.toList.drop 4 = dktX0_sizeOf_1 := dk_seg dksX0_sizeOf_0 4 rfl rfl
theorem dksX0_sizeOf_2 : cX0_sizeOf.data.toList.drop 40 = dktX0_sizeOf_2 := dk_seg dksX0_sizeOf_1 36 rfl rfl
theorem dksX0_sizeOf_3 : cX0_sizeOf.data.toList.drop 64 = dktX0_sizeOf_3 := dk_seg dksX0_sizeOf_2 24 rfl rfl
theorem dX0_sizeOf_0 : decode cX0_sizeOf 0 = .ok (.aload_n 0, 1) := dk_42 (dk_at dksX0_sizeOf_0 0 rfl rfl)
theorem dX0_sizeOf_1 : decode cX0_sizeOf 1 = .ok (.invokestatic 62, 3) := dk_184 0 62 (dk_at dksX0_sizeOf_0 1 rfl rfl)
theorem dX0_sizeOf_4 : decode cX0_sizeOf 4 = .ok (.tableswitch 60 0 4 #[36, 42, 48, 60, 54], 36) := by decide +kernel
theorem dX0_sizeOf_40 : decode cX0_sizeOf 40 = .ok (.aload_n 0, 1) := dk_42 (dk_at dksX0_sizeOf_2 0 rfl rfl)
theorem dX0_sizeOf_41 : decode cX0_sizeOf 41 = .ok (.checkcast 54, 3) := dk_192 0 54 (dk_at dksX0_sizeOf_2 1 rfl rfl)
theorem dX0_sizeOf_44 : decode cX0_sizeOf 44 = .ok (.arraylength, 1) := dk_190 (dk_at dksX0_sizeOf_2 4 rfl rfl)
theorem dX0_sizeOf_45 : decode cX0_sizeOf 45 = .ok (.ireturn, 1) := dk_172 (dk_at dksX0_sizeOf_2 5 rfl rfl)
theorem dX0_sizeOf_46 : decode cX0_sizeOf 46 = .ok (.aload_n 0, 1) := dk_42 (dk_at dksX0_sizeOf_2 6 rfl rfl)
theorem dX0_sizeOf_47 : decode cX0_sizeOf 47 = .ok (.checkcast 56, 3) := dk_192 0 56 (dk_at dksX0_sizeOf_2 7 rfl rfl)
theorem dX0_sizeOf_50 : decode cX0_sizeOf 50 = .ok (.arraylength, 1) := dk_190 (dk_at dksX0_sizeOf_2 10 rfl rfl)
theorem dX0_sizeOf_51 : decode cX0_sizeOf 51 = .ok (.ireturn, 1) := dk_172 (dk_at dksX0_sizeOf_2 11 rfl rfl)
theorem dX0_sizeOf_52 : decode cX0_sizeOf 52 = .ok (.aload_n 0, 1) := dk_42 (dk_at dksX0_sizeOf_2 12 rfl rfl)
theorem dX0_sizeOf_53 : decode cX0_sizeOf 53 = .ok (.checkcast 57, 3) := dk_192 0 57 (dk_at dksX0_sizeOf_2 13 rfl rfl)
theorem dX0_sizeOf_56 : decode cX0_sizeOf 56 = .ok (.arraylength, 1) := dk_190 (dk_at dksX0_sizeOf_2 16 rfl rfl)
theorem dX0_sizeOf_57 : decode cX0_sizeOf 57 = .ok (.ireturn, 1) := dk_172 (dk_at dksX0_sizeOf_2 17 rfl rfl)
theorem dX0_sizeOf_58 : decode cX0_sizeOf 58 = .ok (.aload_n 0, 1) := dk_42 (dk_at dksX0_sizeOf_2 18 rfl rfl)
theorem dX0_sizeOf_59 : decode cX0_sizeOf 59 = .ok (.checkcast 58, 3) := dk_192 0 58 (dk_at dksX0_sizeOf_2 19 rfl rfl)
theorem dX0_sizeOf_62 : decode cX0_sizeOf 62 = .ok (.arraylength, 1) := dk_190 (dk_at dksX0_sizeOf_2 22 rfl rfl)
theorem dX0_sizeOf_63 : decode cX0_sizeOf 63 = .ok (.ireturn, 1) := dk_172 (dk_at dksX0_sizeOf_2 23 rfl rfl)
theorem dX0_sizeOf_64 : decode cX0_sizeOf 64 = .ok (.aload_n 0, 1) := dk_42 (dk_at dksX0_sizeOf_3 0 rfl rfl)
theorem dX0_sizeOf_65 : decode cX0_sizeOf 65 = .ok (.checkcast 66, 3) := dk_192 0 66 (dk_at dksX0_sizeOf_3 1 rfl rfl)
theorem dX0_sizeOf_68 : decode cX0_sizeOf 68 = .ok (.arraylength, 1) := dk_190 (dk_at dksX0_sizeOf_3 4 rfl rfl)
theorem dX0_sizeOf_69 : decode cX0_sizeOf 69 = .ok (.ireturn, 1) := dk_172 (dk_at dksX0_sizeOf_3 5 rfl rfl)
abbrev cX0_kindOf : ByteArray := prog_1_method_6_code
def yX0_kindOf : MethodName := ⟨RX0, "kindOf", "(Ljava/lang/Object;)I"⟩
def dkwX0_kindOf_1 : List UInt8 := [193, 0, 57, 153, 0, 7, 5, 167, 0, 15, 42, 193, 0, 58, 153, 0, 7, 7, 167, 0, 4, 6, 172]
abbrev dktX0_kindOf_1 : List UInt8 := dkwX0_kindOf_1 ++ []
def dkwX0_kindOf_0 : List UInt8 := [42, 193, 0, 54, 153, 0, 7, 3, 167, 0, 37, 42, 193, 0, 56, 153, 0, 7, 4, 167, 0, 26, 42]
abbrev dktX0_kindOf_0 : List UInt8 := dkwX0_kindOf_0 ++ dktX0_kindOf_1
theorem dksX0_kindOf_0 : cX0_kindOf.data.toList.drop 0 = dktX0_kindOf_0 := by decide +kernel
theorem dksX0_kindOf_1 : cX0_kindOf.data.toList.drop 23 = dktX0_kindOf_1 := dk_seg dksX0_kindOf_0 23 rfl rfl
theorem dX0_kindOf_0 : decode cX0_kindOf 0 = .ok (.aload_n 0, 1) := dk_42 (dk_at dksX0_kindOf_0 0 rfl rfl)
theorem dX0_kindOf_1 : decode cX0_kindOf 1 = .ok (.instanceof 54, 3) := dk_193 0 54 (dk_at dksX0_kindOf_0 1 rfl rfl)
theorem dX0_kindOf_4 : decode cX0_kindOf 4 = .ok (.ifCond .eq 7, 3) := dk_153 0 7 (dk_at dksX0_kindOf_0 4 rfl rfl)
theorem dX0_kindOf_7 : decode cX0_kindOf 7 = .ok (.iconst 0, 1) := dk_3 (dk_at dksX0_kindOf_0 7 rfl rfl)
theorem dX0_kindOf_8 : decode cX0_kindOf 8 = .ok (.goto 37, 3) := dk_167 0 37 (dk_at dksX0_kindOf_0 8 rfl rfl)
theorem dX0_kindOf_11 : decode cX0_kindOf 11 = .ok (.aload_n 0, 1) := dk_42 (dk_at dksX0_kindOf_0 11 rfl rfl)
theorem dX0_kindOf_12 : decode cX0_kindOf 12 = .ok (.instanceof 56, 3) := dk_193 0 56 (dk_at dksX0_kindOf_0 12 rfl rfl)
theorem dX0_kindOf_15 : decode cX0_kindOf 15 = .ok (.ifCond .eq 7, 3) := dk_153 0 7 (dk_at dksX0_kindOf_0 15 rfl rfl)
theorem dX0_kindOf_18 : decode cX0_kindOf 18 = .ok (.iconst 1, 1) := dk_4 (dk_at dksX0_kindOf_0 18 rfl rfl)
theorem dX0_kindOf_19 : decode cX0_kindOf 19 = .ok (.goto 26, 3) := dk_167 0 26 (dk_at dksX0_kindOf_0 19 rfl rfl)
theorem dX0_kindOf_22 : decode cX0_kindOf 22 = .ok (.aload_n 0, 1) := dk_42 (dk_at dksX0_kindOf_0 22 rfl rfl)
theorem dX0_kindOf_23 : decode cX0_kindOf 23 = .ok (.instanceof 57, 3) := dk_193 0 57 (dk_at dksX0_kindOf_1 0 rfl rfl)
theorem dX0_kindOf_26 : decode cX0_kindOf 26 = .ok (.ifCond .eq 7, 3) := dk_153 0 7 (dk_at dksX0_kindOf_1 3 rfl rfl)
theorem dX0_kindOf_29 : decode cX0_kindOf 29 = .ok (.iconst 2, 1) := dk_5 (dk_at dksX0_kindOf_1 6 rfl rfl)
theorem dX0_kindOf_30 : decode cX0_kindOf 30 = .ok (.goto 15, 3) := dk_167 0 15 (dk_at dksX0_kindOf_1 7 rfl rfl)
theorem dX0_kindOf_33 : decode cX0_kindOf 33 = .ok (.aload_n 0, 1) := dk_42 (dk_at dksX0_kindOf_1 10 rfl rfl)
theorem dX0_kindOf_34 : decode cX0_kindOf 34 = .ok (.instanceof 58, 3) := dk_193 0 58 (dk_at dksX0_kindOf_1 11 rfl rfl)
theorem dX0_kindOf_37 : decode cX0_kindOf 37 = .ok (.ifCond .eq 7, 3) := dk_153 0 7 (dk_at dksX0_kindOf_1 14 rfl rfl)
theorem dX0_kindOf_40 : decode cX0_kindOf 40 = .ok (.iconst 4, 1) := dk_7 (dk_at dksX0_kindOf_1 17 rfl rfl)
theorem dX0_kindOf_41 : decode cX0_kindOf 41 = .ok (.goto 4, 3) := dk_167 0 4 (dk_at dksX0_kindOf_1 18 rfl rfl)
theorem dX0_kindOf_44 : decode cX0_kindOf 44 = .ok (.iconst 3, 1) := dk_6 (dk_at dksX0_kindOf_1 21 rfl rfl)
theorem dX0_kindOf_45 : decode cX0_kindOf 45 = .ok (.ireturn, 1) := dk_172 (dk_at dksX0_kindOf_1 22 rfl rfl)
abbrev cX0_turn : ByteArray := prog_1_method_23_code
def yX0_turn : MethodName := ⟨RX0, "turn", "(I)I"⟩
def dkwX0_turn_11 : List UInt8 := [182, 0, 137, 172]
abbrev dktX0_turn_11 : List UInt8 := dkwX0_turn_11 ++ []
def dkwX0_turn_10 : List UInt8 := [184, 0, 164, 45, 42, 180, 0, 34, 182, 0, 168, 132, 6, 1, 167, 255, 183, 42, 42, 180, 0, 40, 25, 5]
abbrev dktX0_turn_10 : List UInt8 := dkwX0_turn_10 ++ dktX0_turn_11
def dkwX0_turn_9 : List UInt8 := [180, 0, 34, 5, 46, 79, 44, 21, 6, 25, 5, 42, 180, 0, 40, 42, 180, 0, 37, 182, 0, 160]
abbrev dktX0_turn_9 : List UInt8 := dkwX0_turn_9 ++ dktX0_turn_10
def dkwX0_turn_8 : List UInt8 := [180, 0, 34, 4, 46, 79, 42, 180, 0, 37, 4, 42, 180, 0, 34, 3, 46, 79, 42, 180, 0, 37, 5, 42]
abbrev dktX0_turn_8 : List UInt8 := dkwX0_turn_8 ++ dktX0_turn_9
def dkwX0_turn_7 : List UInt8 := [42, 180, 0, 34, 182, 0, 156, 3, 54, 6, 21, 6, 21, 4, 162, 0, 72, 42, 180, 0, 37, 3, 42]
abbrev dktX0_turn_7 : List UInt8 := dkwX0_turn_7 ++ dktX0_turn_8
def dkwX0_turn_6 : List UInt8 := [180, 0, 111, 3, 46, 79, 44, 184, 0, 147, 54, 4, 44, 184, 0, 62, 21, 4, 184, 0, 134, 58, 5, 45]
abbrev dktX0_turn_6 : List UInt8 := dkwX0_turn_6 ++ dktX0_turn_7
def dkwX0_turn_5 : List UInt8 := [180, 0, 40, 180, 0, 105, 4, 45, 180, 0, 105, 3, 46, 79, 42, 180, 0, 40, 180, 0, 111, 4, 45]
abbrev dktX0_turn_5 : List UInt8 := dkwX0_turn_5 ++ dktX0_turn_6
def dkwX0_turn_4 : List UInt8 := [180, 0, 105, 4, 46, 79, 42, 180, 0, 40, 180, 0, 111, 3, 45, 180, 0, 111, 4, 46, 79, 42]
abbrev dktX0_turn_4 : List UInt8 := dkwX0_turn_4 ++ dktX0_turn_5
def dkwX0_turn_3 : List UInt8 := [42, 16, 8, 182, 0, 47, 172, 42, 180, 0, 40, 45, 182, 0, 97, 42, 180, 0, 40, 180, 0, 105, 3, 45]
abbrev dktX0_turn_3 : List UInt8 := dkwX0_turn_3 ++ dktX0_turn_4
def dkwX0_turn_2 : List UInt8 := [45, 180, 0, 108, 4, 160, 0, 10, 42, 16, 9, 182, 0, 47, 172, 42, 180, 0, 51, 16, 24, 160, 0, 10]
abbrev dktX0_turn_2 : List UInt8 := dkwX0_turn_2 ++ dktX0_turn_3
def dkwX0_turn_1 : List UInt8 := [77, 42, 180, 0, 18, 27, 50, 180, 0, 96, 78, 44, 193, 0, 58, 153, 0, 9, 42, 5, 182, 0, 47, 172]
abbrev dktX0_turn_1 : List UInt8 := dkwX0_turn_1 ++ dktX0_turn_2
def dkwX0_turn_0 : List UInt8 := [42, 27, 182, 0, 143, 154, 0, 10, 42, 16, 7, 182, 0, 47, 172, 42, 180, 0, 18, 27, 50, 180, 0, 101]
abbrev dktX0_turn_0 : List UInt8 := dkwX0_turn_0 ++ dktX0_turn_1
theorem dksX0_turn_0 : cX0_turn.data.toList.drop 0 = dktX0_turn_0 := by decide +kernel
theorem dksX0_turn_1 : cX0_turn.data.toList.drop 24 = dktX0_turn_1 := dk_seg dksX0_turn_0 24 rfl rfl
theorem dksX0_turn_2 : cX0_turn.data.toList.drop 48 = dktX0_turn_2 := dk_seg dksX0_turn_1 24 rfl rfl
theorem dksX0_turn_3 : cX0_turn.data.toList.drop 72 = dktX0_turn_3 := dk_seg dksX0_turn_2 24 rfl rfl
theorem dksX0_turn_4 : cX0_turn.data.toList.drop 96 = dktX0_turn_4 := dk_seg dksX0_turn_3 24 rfl rfl
theorem dksX0_turn_5 : cX0_turn.data.toList.drop 118 = dktX0_turn_5 := dk_seg dksX0_turn_4 22 rfl rfl
theorem dksX0_turn_6 : cX0_turn.data.toList.drop 141 = dktX0_turn_6 := dk_seg dksX0_turn_5 23 rfl rfl
theorem dksX0_turn_7 : cX0_turn.data.toList.drop 165 = dktX0_turn_7 := dk_seg dksX0_turn_6 24 rfl rfl
theorem dksX0_turn_8 : cX0_turn.data.toList.drop 188 = dktX0_turn_8 := dk_seg dksX0_turn_7 23 rfl rfl
theorem dksX0_turn_9 : cX0_turn.data.toList.drop 212 = dktX0_turn_9 := dk_seg dksX0_turn_8 24 rfl rfl
theorem dksX0_turn_10 : cX0_turn.data.toList.drop 234 = dktX0_turn_10 := dk_seg dksX0_turn_9 22 rfl rfl
theorem dksX0_turn_11 : cX0_turn.data.toList.drop 258 = dktX0_turn_11 := dk_seg dksX0_turn_10 24 rfl rfl
theorem dX0_turn_0 : decode cX0_turn 0 = .ok (.aload_n 0, 1) := dk_42 (dk_at dksX0_turn_0 0 rfl rfl)
theorem dX0_turn_1 : decode cX0_turn 1 = .ok (.iload_n 1, 1) := dk_27 (dk_at dksX0_turn_0 1 rfl rfl)
theorem dX0_turn_2 : decode cX0_turn 2 = .ok (.invokevirtual 143, 3) := dk_182 0 143 (dk_at dksX0_turn_0 2 rfl rfl)
theorem dX0_turn_5 : decode cX0_turn 5 = .ok (.ifCond .ne 10, 3) := dk_154 0 10 (dk_at dksX0_turn_0 5 rfl rfl)
theorem dX0_turn_8 : decode cX0_turn 8 = .ok (.aload_n 0, 1) := dk_42 (dk_at dksX0_turn_0 8 rfl rfl)
theorem dX0_turn_9 : decode cX0_turn 9 = .ok (.bipush 7, 2) := dk_16 7 (dk_at dksX0_turn_0 9 rfl rfl)
theorem dX0_turn_11 : decode cX0_turn 11 = .ok (.invokevirtual 47, 3) := dk_182 0 47 (dk_at dksX0_turn_0 11 rfl rfl)
theorem dX0_turn_14 : decode cX0_turn 14 = .ok (.ireturn, 1) := dk_172 (dk_at dksX0_turn_0 14 rfl rfl)
theorem dX0_turn_15 : decode cX0_turn 15 = .ok (.aload_n 0, 1) := dk_42 (dk_at dksX0_turn_0 15 rfl rfl)
theorem dX0_turn_16 : decode cX0_turn 16 = .ok (.getfield 18, 3) := dk_180 0 18 (dk_at dksX0_turn_0 16 rfl rfl)
theorem dX0_turn_19 : decode cX0_turn 19 = .ok (.iload_n 1, 1) := dk_27 (dk_at dksX0_turn_0 19 rfl rfl)
theorem dX0_turn_20 : decode cX0_turn 20 = .ok (.aaload, 1) := dk_50 (dk_at dksX0_turn_0 20 rfl rfl)
theorem dX0_turn_21 : decode cX0_turn 21 = .ok (.getfield 101, 3) := dk_180 0 101 (dk_at dksX0_turn_0 21 rfl rfl)
theorem dX0_turn_24 : decode cX0_turn 24 = .ok (.astore_n 2, 1) := dk_77 (dk_at dksX0_turn_1 0 rfl rfl)
theorem dX0_turn_25 : decode cX0_turn 25 = .ok (.aload_n 0, 1) := dk_42 (dk_at dksX0_turn_1 1 rfl rfl)
theorem dX0_turn_26 : decode cX0_turn 26 = .ok (.getfield 18, 3) := dk_180 0 18 (dk_at dksX0_turn_1 2 rfl rfl)
theorem dX0_turn_29 : decode cX0_turn 29 = .ok (.iload_n 1, 1) := dk_27 (dk_at dksX0_turn_1 5 rfl rfl)
theorem dX0_turn_30 : decode cX0_turn 30 = .ok (.aaload, 1) := dk_50 (dk_at dksX0_turn_1 6 rfl rfl)
theorem dX0_turn_31 : decode cX0_turn 31 = .ok (.getfield 96, 3) := dk_180 0 96 (dk_at dksX0_turn_1 7 rfl rfl)
theorem dX0_turn_34 : decode cX0_turn 34 = .ok (.astore_n 3, 1) := dk_78 (dk_at dksX0_turn_1 10 rfl rfl)
theorem dX0_turn_35 : decode cX0_turn 35 = .ok (.aload_n 2, 1) := dk_44 (dk_at dksX0_turn_1 11 rfl rfl)
theorem dX0_turn_36 : decode cX0_turn 36 = .ok (.instanceof 58, 3) := dk_193 0 58 (dk_at dksX0_turn_1 12 rfl rfl)
theorem dX0_turn_39 : decode cX0_turn 39 = .ok (.ifCond .eq 9, 3) := dk_153 0 9 (dk_at dksX0_turn_1 15 rfl rfl)
theorem dX0_turn_42 : decode cX0_turn 42 = .ok (.aload_n 0, 1) := dk_42 (dk_at dksX0_turn_1 18 rfl rfl)
theorem dX0_turn_43 : decode cX0_turn 43 = .ok (.iconst 2, 1) := dk_5 (dk_at dksX0_turn_1 19 rfl rfl)
theorem dX0_turn_44 : decode cX0_turn 44 = .ok (.invokevirtual 47, 3) := dk_182 0 47 (dk_at dksX0_turn_1 20 rfl rfl)
theorem dX0_turn_47 : decode cX0_turn 47 = .ok (.ireturn, 1) := dk_172 (dk_at dksX0_turn_1 23 rfl rfl)
theorem dX0_turn_48 : decode cX0_turn 48 = .ok (.aload_n 3, 1) := dk_45 (dk_at dksX0_turn_2 0 rfl rfl)
theorem dX0_turn_49 : decode cX0_turn 49 = .ok (.getfield 108, 3) := dk_180 0 108 (dk_at dksX0_turn_2 1 rfl rfl)
theorem dX0_turn_52 : decode cX0_turn 52 = .ok (.iconst 1, 1) := dk_4 (dk_at dksX0_turn_2 4 rfl rfl)
theorem dX0_turn_53 : decode cX0_turn 53 = .ok (.if_icmp .ne 10, 3) := dk_160 0 10 (dk_at dksX0_turn_2 5 rfl rfl)
theorem dX0_turn_56 : decode cX0_turn 56 = .ok (.aload_n 0, 1) := dk_42 (dk_at dksX0_turn_2 8 rfl rfl)
theorem dX0_turn_57 : decode cX0_turn 57 = .ok (.bipush 9, 2) := dk_16 9 (dk_at dksX0_turn_2 9 rfl rfl)
theorem dX0_turn_59 : decode cX0_turn 59 = .ok (.invokevirtual 47, 3) := dk_182 0 47 (dk_at dksX0_turn_2 11 rfl rfl)
theorem dX0_turn_62 : decode cX0_turn 62 = .ok (.ireturn, 1) := dk_172 (dk_at dksX0_turn_2 14 rfl rfl)
theorem dX0_turn_63 : decode cX0_turn 63 = .ok (.aload_n 0, 1) := dk_42 (dk_at dksX0_turn_2 15 rfl rfl)
theorem dX0_turn_64 : decode cX0_turn 64 = .ok (.getfield 51, 3) := dk_180 0 51 (dk_at dksX0_turn_2 16 rfl rfl)
theorem dX0_turn_67 : decode cX0_turn 67 = .ok (.bipush 24, 2) := dk_16 24 (dk_at dksX0_turn_2 19 rfl rfl)
theorem dX0_turn_69 : decode cX0_turn 69 = .ok (.if_icmp .ne 10, 3) := dk_160 0 10 (dk_at dksX0_turn_2 21 rfl rfl)
theorem dX0_turn_72 : decode cX0_turn 72 = .ok (.aload_n 0, 1) := dk_42 (dk_at dksX0_turn_3 0 rfl rfl)
theorem dX0_turn_73 : decode cX0_turn 73 = .ok (.bipush 8, 2) := dk_16 8 (dk_at dksX0_turn_3 1 rfl rfl)
theorem dX0_turn_75 : decode cX0_turn 75 = .ok (.invokevirtual 47, 3) := dk_182 0 47 (dk_at dksX0_turn_3 3 rfl rfl)
theorem dX0_turn_78 : decode cX0_turn 78 = .ok (.ireturn, 1) := dk_172 (dk_at dksX0_turn_3 6 rfl rfl)
theorem dX0_turn_79 : decode cX0_turn 79 = .ok (.aload_n 0, 1) := dk_42 (dk_at dksX0_turn_3 7 rfl rfl)
theorem dX0_turn_80 : decode cX0_turn 80 = .ok (.getfield 40, 3) := dk_180 0 40 (dk_at dksX0_turn_3 8 rfl rfl)
theorem dX0_turn_83 : decode cX0_turn 83 = .ok (.aload_n 3, 1) := dk_45 (dk_at dksX0_turn_3 11 rfl rfl)
theorem dX0_turn_84 : decode cX0_turn 84 = .ok (.invokevirtual 97, 3) := dk_182 0 97 (dk_at dksX0_turn_3 12 rfl rfl)
theorem dX0_turn_87 : decode cX0_turn 87 = .ok (.aload_n 0, 1) := dk_42 (dk_at dksX0_turn_3 15 rfl rfl)
theorem dX0_turn_88 : decode cX0_turn 88 = .ok (.getfield 40, 3) := dk_180 0 40 (dk_at dksX0_turn_3 16 rfl rfl)
theorem dX0_turn_91 : decode cX0_turn 91 = .ok (.getfield 105, 3) := dk_180 0 105 (dk_at dksX0_turn_3 19 rfl rfl)
theorem dX0_turn_94 : decode cX0_turn 94 = .ok (.iconst 0, 1) := dk_3 (dk_at dksX0_turn_3 22 rfl rfl)
theorem dX0_turn_95 : decode cX0_turn 95 = .ok (.aload_n 3, 1) := dk_45 (dk_at dksX0_turn_3 23 rfl rfl)
theorem dX0_turn_96 : decode cX0_turn 96 = .ok (.getfield 105, 3) := dk_180 0 105 (dk_at dksX0_turn_4 0 rfl rfl)
theorem dX0_turn_99 : decode cX0_turn 99 = .ok (.iconst 1, 1) := dk_4 (dk_at dksX0_turn_4 3 rfl rfl)
theorem dX0_turn_100 : decode cX0_turn 100 = .ok (.iaload, 1) := dk_46 (dk_at dksX0_turn_4 4 rfl rfl)
theorem dX0_turn_101 : decode cX0_turn 101 = .ok (.iastore, 1) := dk_79 (dk_at dksX0_turn_4 5 rfl rfl)
theorem dX0_turn_102 : decode cX0_turn 102 = .ok (.aload_n 0, 1) := dk_42 (dk_at dksX0_turn_4 6 rfl rfl)
theorem dX0_turn_103 : decode cX0_turn 103 = .ok (.getfield 40, 3) := dk_180 0 40 (dk_at dksX0_turn_4 7 rfl rfl)
theorem dX0_turn_106 : decode cX0_turn 106 = .ok (.getfield 111, 3) := dk_180 0 111 (dk_at dksX0_turn_4 10 rfl rfl)
theorem dX0_turn_109 : decode cX0_turn 109 = .ok (.iconst 0, 1) := dk_3 (dk_at dksX0_turn_4 13 rfl rfl)
theorem dX0_turn_110 : decode cX0_turn 110 = .ok (.aload_n 3, 1) := dk_45 (dk_at dksX0_turn_4 14 rfl rfl)
theorem dX0_turn_111 : decode cX0_turn 111 = .ok (.getfield 111, 3) := dk_180 0 111 (dk_at dksX0_turn_4 15 rfl rfl)
theorem dX0_turn_114 : decode cX0_turn 114 = .ok (.iconst 1, 1) := dk_4 (dk_at dksX0_turn_4 18 rfl rfl)
theorem dX0_turn_115 : decode cX0_turn 115 = .ok (.iaload, 1) := dk_46 (dk_at dksX0_turn_4 19 rfl rfl)
theorem dX0_turn_116 : decode cX0_turn 116 = .ok (.iastore, 1) := dk_79 (dk_at dksX0_turn_4 20 rfl rfl)
theorem dX0_turn_117 : decode cX0_turn 117 = .ok (.aload_n 0, 1) := dk_42 (dk_at dksX0_turn_4 21 rfl rfl)
theorem dX0_turn_118 : decode cX0_turn 118 = .ok (.getfield 40, 3) := dk_180 0 40 (dk_at dksX0_turn_5 0 rfl rfl)
theorem dX0_turn_121 : decode cX0_turn 121 = .ok (.getfield 105, 3) := dk_180 0 105 (dk_at dksX0_turn_5 3 rfl rfl)
theorem dX0_turn_124 : decode cX0_turn 124 = .ok (.iconst 1, 1) := dk_4 (dk_at dksX0_turn_5 6 rfl rfl)
theorem dX0_turn_125 : decode cX0_turn 125 = .ok (.aload_n 3, 1) := dk_45 (dk_at dksX0_turn_5 7 rfl rfl)
theorem dX0_turn_126 : decode cX0_turn 126 = .ok (.getfield 105, 3) := dk_180 0 105 (dk_at dksX0_turn_5 8 rfl rfl)
theorem dX0_turn_129 : decode cX0_turn 129 = .ok (.iconst 0, 1) := dk_3 (dk_at dksX0_turn_5 11 rfl rfl)
theorem dX0_turn_130 : decode cX0_turn 130 = .ok (.iaload, 1) := dk_46 (dk_at dksX0_turn_5 12 rfl rfl)
theorem dX0_turn_131 : decode cX0_turn 131 = .ok (.iastore, 1) := dk_79 (dk_at dksX0_turn_5 13 rfl rfl)
theorem dX0_turn_132 : decode cX0_turn 132 = .ok (.aload_n 0, 1) := dk_42 (dk_at dksX0_turn_5 14 rfl rfl)
theorem dX0_turn_133 : decode cX0_turn 133 = .ok (.getfield 40, 3) := dk_180 0 40 (dk_at dksX0_turn_5 15 rfl rfl)
theorem dX0_turn_136 : decode cX0_turn 136 = .ok (.getfield 111, 3) := dk_180 0 111 (dk_at dksX0_turn_5 18 rfl rfl)
theorem dX0_turn_139 : decode cX0_turn 139 = .ok (.iconst 1, 1) := dk_4 (dk_at dksX0_turn_5 21 rfl rfl)
theorem dX0_turn_140 : decode cX0_turn 140 = .ok (.aload_n 3, 1) := dk_45 (dk_at dksX0_turn_5 22 rfl rfl)
theorem dX0_turn_141 : decode cX0_turn 141 = .ok (.getfield 111, 3) := dk_180 0 111 (dk_at dksX0_turn_6 0 rfl rfl)
theorem dX0_turn_144 : decode cX0_turn 144 = .ok (.iconst 0, 1) := dk_3 (dk_at dksX0_turn_6 3 rfl rfl)
theorem dX0_turn_145 : decode cX0_turn 145 = .ok (.iaload, 1) := dk_46 (dk_at dksX0_turn_6 4 rfl rfl)
theorem dX0_turn_146 : decode cX0_turn 146 = .ok (.iastore, 1) := dk_79 (dk_at dksX0_turn_6 5 rfl rfl)
theorem dX0_turn_147 : decode cX0_turn 147 = .ok (.aload_n 2, 1) := dk_44 (dk_at dksX0_turn_6 6 rfl rfl)
theorem dX0_turn_148 : decode cX0_turn 148 = .ok (.invokestatic 147, 3) := dk_184 0 147 (dk_at dksX0_turn_6 7 rfl rfl)
theorem dX0_turn_151 : decode cX0_turn 151 = .ok (.istore 4, 2) := dk_54 4 (dk_at dksX0_turn_6 10 rfl rfl)
theorem dX0_turn_153 : decode cX0_turn 153 = .ok (.aload_n 2, 1) := dk_44 (dk_at dksX0_turn_6 12 rfl rfl)
theorem dX0_turn_154 : decode cX0_turn 154 = .ok (.invokestatic 62, 3) := dk_184 0 62 (dk_at dksX0_turn_6 13 rfl rfl)
theorem dX0_turn_157 : decode cX0_turn 157 = .ok (.iload 4, 2) := dk_21 4 (dk_at dksX0_turn_6 16 rfl rfl)
theorem dX0_turn_159 : decode cX0_turn 159 = .ok (.invokestatic 134, 3) := dk_184 0 134 (dk_at dksX0_turn_6 18 rfl rfl)
theorem dX0_turn_162 : decode cX0_turn 162 = .ok (.astore 5, 2) := dk_58 5 (dk_at dksX0_turn_6 21 rfl rfl)
theorem dX0_turn_164 : decode cX0_turn 164 = .ok (.aload_n 3, 1) := dk_45 (dk_at dksX0_turn_6 23 rfl rfl)
theorem dX0_turn_165 : decode cX0_turn 165 = .ok (.aload_n 0, 1) := dk_42 (dk_at dksX0_turn_7 0 rfl rfl)
theorem dX0_turn_166 : decode cX0_turn 166 = .ok (.getfield 34, 3) := dk_180 0 34 (dk_at dksX0_turn_7 1 rfl rfl)
theorem dX0_turn_169 : decode cX0_turn 169 = .ok (.invokevirtual 156, 3) := dk_182 0 156 (dk_at dksX0_turn_7 4 rfl rfl)
theorem dX0_turn_172 : decode cX0_turn 172 = .ok (.iconst 0, 1) := dk_3 (dk_at dksX0_turn_7 7 rfl rfl)
theorem dX0_turn_173 : decode cX0_turn 173 = .ok (.istore 6, 2) := dk_54 6 (dk_at dksX0_turn_7 8 rfl rfl)
theorem dX0_turn_175 : decode cX0_turn 175 = .ok (.iload 6, 2) := dk_21 6 (dk_at dksX0_turn_7 10 rfl rfl)
theorem dX0_turn_177 : decode cX0_turn 177 = .ok (.iload 4, 2) := dk_21 4 (dk_at dksX0_turn_7 12 rfl rfl)
theorem dX0_turn_179 : decode cX0_turn 179 = .ok (.if_icmp .ge 72, 3) := dk_162 0 72 (dk_at dksX0_turn_7 14 rfl rfl)
theorem dX0_turn_182 : decode cX0_turn 182 = .ok (.aload_n 0, 1) := dk_42 (dk_at dksX0_turn_7 17 rfl rfl)
theorem dX0_turn_183 : decode cX0_turn 183 = .ok (.getfield 37, 3) := dk_180 0 37 (dk_at dksX0_turn_7 18 rfl rfl)
theorem dX0_turn_186 : decode cX0_turn 186 = .ok (.iconst 0, 1) := dk_3 (dk_at dksX0_turn_7 21 rfl rfl)
theorem dX0_turn_187 : decode cX0_turn 187 = .ok (.aload_n 0, 1) := dk_42 (dk_at dksX0_turn_7 22 rfl rfl)
theorem dX0_turn_188 : decode cX0_turn 188 = .ok (.getfield 34, 3) := dk_180 0 34 (dk_at dksX0_turn_8 0 rfl rfl)
theorem dX0_turn_191 : decode cX0_turn 191 = .ok (.iconst 1, 1) := dk_4 (dk_at dksX0_turn_8 3 rfl rfl)
theorem dX0_turn_192 : decode cX0_turn 192 = .ok (.iaload, 1) := dk_46 (dk_at dksX0_turn_8 4 rfl rfl)
theorem dX0_turn_193 : decode cX0_turn 193 = .ok (.iastore, 1) := dk_79 (dk_at dksX0_turn_8 5 rfl rfl)
theorem dX0_turn_194 : decode cX0_turn 194 = .ok (.aload_n 0, 1) := dk_42 (dk_at dksX0_turn_8 6 rfl rfl)
theorem dX0_turn_195 : decode cX0_turn 195 = .ok (.getfield 37, 3) := dk_180 0 37 (dk_at dksX0_turn_8 7 rfl rfl)
theorem dX0_turn_198 : decode cX0_turn 198 = .ok (.iconst 1, 1) := dk_4 (dk_at dksX0_turn_8 10 rfl rfl)
theorem dX0_turn_199 : decode cX0_turn 199 = .ok (.aload_n 0, 1) := dk_42 (dk_at dksX0_turn_8 11 rfl rfl)
theorem dX0_turn_200 : decode cX0_turn 200 = .ok (.getfield 34, 3) := dk_180 0 34 (dk_at dksX0_turn_8 12 rfl rfl)
theorem dX0_turn_203 : decode cX0_turn 203 = .ok (.iconst 0, 1) := dk_3 (dk_at dksX0_turn_8 15 rfl rfl)
theorem dX0_turn_204 : decode cX0_turn 204 = .ok (.iaload, 1) := dk_46 (dk_at dksX0_turn_8 16 rfl rfl)
theorem dX0_turn_205 : decode cX0_turn 205 = .ok (.iastore, 1) := dk_79 (dk_at dksX0_turn_8 17 rfl rfl)
theorem dX0_turn_206 : decode cX0_turn 206 = .ok (.aload_n 0, 1) := dk_42 (dk_at dksX0_turn_8 18 rfl rfl)
theorem dX0_turn_207 : decode cX0_turn 207 = .ok (.getfield 37, 3) := dk_180 0 37 (dk_at dksX0_turn_8 19 rfl rfl)
theorem dX0_turn_210 : decode cX0_turn 210 = .ok (.iconst 2, 1) := dk_5 (dk_at dksX0_turn_8 22 rfl rfl)
theorem dX0_turn_211 : decode cX0_turn 211 = .ok (.aload_n 0, 1) := dk_42 (dk_at dksX0_turn_8 23 rfl rfl)
theorem dX0_turn_212 : decode cX0_turn 212 = .ok (.getfield 34, 3) := dk_180 0 34 (dk_at dksX0_turn_9 0 rfl rfl)
theorem dX0_turn_215 : decode cX0_turn 215 = .ok (.iconst 2, 1) := dk_5 (dk_at dksX0_turn_9 3 rfl rfl)
theorem dX0_turn_216 : decode cX0_turn 216 = .ok (.iaload, 1) := dk_46 (dk_at dksX0_turn_9 4 rfl rfl)
theorem dX0_turn_217 : decode cX0_turn 217 = .ok (.iastore, 1) := dk_79 (dk_at dksX0_turn_9 5 rfl rfl)
theorem dX0_turn_218 : decode cX0_turn 218 = .ok (.aload_n 2, 1) := dk_44 (dk_at dksX0_turn_9 6 rfl rfl)
theorem dX0_turn_219 : decode cX0_turn 219 = .ok (.iload 6, 2) := dk_21 6 (dk_at dksX0_turn_9 7 rfl rfl)
theorem dX0_turn_221 : decode cX0_turn 221 = .ok (.aload 5, 2) := dk_25 5 (dk_at dksX0_turn_9 9 rfl rfl)
theorem dX0_turn_223 : decode cX0_turn 223 = .ok (.aload_n 0, 1) := dk_42 (dk_at dksX0_turn_9 11 rfl rfl)
theorem dX0_turn_224 : decode cX0_turn 224 = .ok (.getfield 40, 3) := dk_180 0 40 (dk_at dksX0_turn_9 12 rfl rfl)
theorem dX0_turn_227 : decode cX0_turn 227 = .ok (.aload_n 0, 1) := dk_42 (dk_at dksX0_turn_9 15 rfl rfl)
theorem dX0_turn_228 : decode cX0_turn 228 = .ok (.getfield 37, 3) := dk_180 0 37 (dk_at dksX0_turn_9 16 rfl rfl)
theorem dX0_turn_231 : decode cX0_turn 231 = .ok (.invokevirtual 160, 3) := dk_182 0 160 (dk_at dksX0_turn_9 19 rfl rfl)
theorem dX0_turn_234 : decode cX0_turn 234 = .ok (.invokestatic 164, 3) := dk_184 0 164 (dk_at dksX0_turn_10 0 rfl rfl)
theorem dX0_turn_237 : decode cX0_turn 237 = .ok (.aload_n 3, 1) := dk_45 (dk_at dksX0_turn_10 3 rfl rfl)
theorem dX0_turn_238 : decode cX0_turn 238 = .ok (.aload_n 0, 1) := dk_42 (dk_at dksX0_turn_10 4 rfl rfl)
theorem dX0_turn_239 : decode cX0_turn 239 = .ok (.getfield 34, 3) := dk_180 0 34 (dk_at dksX0_turn_10 5 rfl rfl)
theorem dX0_turn_242 : decode cX0_turn 242 = .ok (.invokevirtual 168, 3) := dk_182 0 168 (dk_at dksX0_turn_10 8 rfl rfl)
theorem dX0_turn_245 : decode cX0_turn 245 = .ok (.iinc 6 1, 3) := dk_132 6 1 (dk_at dksX0_turn_10 11 rfl rfl)
theorem dX0_turn_248 : decode cX0_turn 248 = .ok (.goto (-73), 3) := dk_167 255 183 (dk_at dksX0_turn_10 14 rfl rfl)
theorem dX0_turn_251 : decode cX0_turn 251 = .ok (.aload_n 0, 1) := dk_42 (dk_at dksX0_turn_10 17 rfl rfl)
theorem dX0_turn_252 : decode cX0_turn 252 = .ok (.aload_n 0, 1) := dk_42 (dk_at dksX0_turn_10 18 rfl rfl)
theorem dX0_turn_253 : decode cX0_turn 253 = .ok (.getfield 40, 3) := dk_180 0 40 (dk_at dksX0_turn_10 19 rfl rfl)
theorem dX0_turn_256 : decode cX0_turn 256 = .ok (.aload 5, 2) := dk_25 5 (dk_at dksX0_turn_10 22 rfl rfl)
theorem dX0_turn_258 : decode cX0_turn 258 = .ok (.invokevirtual 137, 3) := dk_182 0 137 (dk_at dksX0_turn_11 0 rfl rfl)
theorem dX0_turn_261 : decode cX0_turn 261 = .ok (.ireturn, 1) := dk_172 (dk_at dksX0_turn_11 3 rfl rfl)
abbrev cX0_copy : ByteArray := prog_1_method_22_code
def yX0_copy : MethodName := ⟨RX0, "copy", "(Ljava/lang/Object;ILjava/lang/Object;I)V"⟩
def dkwX0_copy_0 : List UInt8 := [42, 27, 44, 29, 4, 184, 0, 150, 177]
abbrev dktX0_copy_0 : List UInt8 := dkwX0_copy_0 ++ []
theorem dksX0_copy_0 : cX0_copy.data.toList.drop 0 = dktX0_copy_0 := by decide +kernel
theorem dX0_copy_0 : decode cX0_copy 0 = .ok (.aload_n 0, 1) := dk_42 (dk_at dksX0_copy_0 0 rfl rfl)
theorem dX0_copy_1 : decode cX0_copy 1 = .ok (.iload_n 1, 1) := dk_27 (dk_at dksX0_copy_0 1 rfl rfl)
theorem dX0_copy_2 : decode cX0_copy 2 = .ok (.aload_n 2, 1) := dk_44 (dk_at dksX0_copy_0 2 rfl rfl)
theorem dX0_copy_3 : decode cX0_copy 3 = .ok (.iload_n 3, 1) := dk_29 (dk_at dksX0_copy_0 3 rfl rfl)
theorem dX0_copy_4 : decode cX0_copy 4 = .ok (.iconst 1, 1) := dk_4 (dk_at dksX0_copy_0 4 rfl rfl)
theorem dX0_copy_5 : decode cX0_copy 5 = .ok (.invokestatic 150, 3) := dk_184 0 150 (dk_at dksX0_copy_0 5 rfl rfl)
theorem dX0_copy_8 : decode cX0_copy 8 = .ok (.return_, 1) := dk_177 (dk_at dksX0_copy_0 8 rfl rfl)
abbrev cX0_cut : ByteArray := prog_1_method_24_code
def yX0_cut : MethodName := ⟨RX0, "cut", "(I)I"⟩
def dkwX0_cut_9 : List UInt8 := [180, 0, 10, 3, 181, 0, 108, 21, 6, 172]
abbrev dktX0_cut_9 : List UInt8 := dkwX0_cut_9 ++ []
def dkwX0_cut_8 : List UInt8 := [160, 0, 10, 42, 16, 8, 182, 0, 47, 172, 42, 42, 180, 0, 10, 25, 5, 182, 0, 137, 54, 6, 42]
abbrev dktX0_cut_8 : List UInt8 := dkwX0_cut_8 ++ dktX0_cut_9
def dkwX0_cut_7 : List UInt8 := [180, 0, 10, 42, 180, 0, 34, 182, 0, 168, 132, 6, 1, 167, 255, 196, 42, 180, 0, 51, 16, 24]
abbrev dktX0_cut_7 : List UInt8 := dkwX0_cut_7 ++ dktX0_cut_8
def dkwX0_cut_6 : List UInt8 := [21, 7, 182, 0, 174, 172, 44, 45, 42, 180, 0, 34, 182, 0, 160, 25, 5, 21, 6, 184, 0, 164, 42]
abbrev dktX0_cut_6 : List UInt8 := dkwX0_cut_6 ++ dktX0_cut_7
def dkwX0_cut_5 : List UInt8 := [21, 6, 21, 4, 162, 0, 59, 45, 42, 180, 0, 34, 182, 0, 171, 54, 7, 21, 7, 2, 159, 0, 10, 42]
abbrev dktX0_cut_5 : List UInt8 := dkwX0_cut_5 ++ dktX0_cut_6
def dkwX0_cut_4 : List UInt8 := [184, 0, 62, 21, 4, 184, 0, 134, 58, 5, 42, 180, 0, 10, 42, 180, 0, 34, 182, 0, 156, 3, 54, 6]
abbrev dktX0_cut_4 : List UInt8 := dkwX0_cut_4 ++ dktX0_cut_5
def dkwX0_cut_3 : List UInt8 := [180, 0, 10, 182, 0, 120, 54, 4, 21, 4, 17, 1, 244, 164, 0, 9, 42, 8, 182, 0, 47, 172, 44]
abbrev dktX0_cut_3 : List UInt8 := dkwX0_cut_3 ++ dktX0_cut_4
def dkwX0_cut_2 : List UInt8 := [42, 180, 0, 10, 180, 0, 108, 45, 180, 0, 108, 159, 0, 10, 42, 16, 9, 182, 0, 47, 172, 42]
abbrev dktX0_cut_2 : List UInt8 := dkwX0_cut_2 ++ dktX0_cut_3
def dkwX0_cut_1 : List UInt8 := [77, 42, 180, 0, 18, 27, 50, 180, 0, 96, 78, 44, 193, 0, 58, 153, 0, 9, 42, 5, 182, 0, 47, 172]
abbrev dktX0_cut_1 : List UInt8 := dkwX0_cut_1 ++ dktX0_cut_2
def dkwX0_cut_0 : List UInt8 := [42, 27, 182, 0, 143, 154, 0, 10, 42, 16, 7, 182, 0, 47, 172, 42, 180, 0, 18, 27, 50, 180, 0, 101]
abbrev dktX0_cut_0 : List UInt8 := dkwX0_cut_0 ++ dktX0_cut_1
theorem dksX0_cut_0 : cX0_cut.data.toList.drop 0 = dktX0_cut_0 := by decide +kernel
theorem dksX0_cut_1 : cX0_cut.data.toList.drop 24 = dktX0_cut_1 := dk_seg dksX0_cut_0 24 rfl rfl
theorem dksX0_cut_2 : cX0_cut.data.toList.drop 48 = dktX0_cut_2 := dk_seg dksX0_cut_1 24 rfl rfl
theorem dksX0_cut_3 : cX0_cut.data.toList.drop 70 = dktX0_cut_3 := dk_seg dksX0_cut_2 22 rfl rfl
theorem dksX0_cut_4 : cX0_cut.data.toList.drop 93 = dktX0_cut_4 := dk_seg dksX0_cut_3 23 rfl rfl
theorem dksX0_cut_5 : cX0_cut.data.toList.drop 117 = dktX0_cut_5 := dk_seg dksX0_cut_4 24 rfl rfl
theorem dksX0_cut_6 : cX0_cut.data.toList.drop 141 = dktX0_cut_6 := dk_seg dksX0_cut_5 24 rfl rfl
theorem dksX0_cut_7 : cX0_cut.data.toList.drop 164 = dktX0_cut_7 := dk_seg dksX0_cut_6 23 rfl rfl
theorem dksX0_cut_8 : cX0_cut.data.toList.drop 186 = dktX0_cut_8 := dk_seg dksX0_cut_7 22 rfl rfl
theorem dksX0_cut_9 : cX0_cut.data.toList.drop 209 = dktX0_cut_9 := dk_seg dksX0_cut_8 23 rfl rfl
theorem dX0_cut_0 : decode cX0_cut 0 = .ok (.aload_n 0, 1) := dk_42 (dk_at dksX0_cut_0 0 rfl rfl)
theorem dX0_cut_1 : decode cX0_cut 1 = .ok (.iload_n 1, 1) := dk_27 (dk_at dksX0_cut_0 1 rfl rfl)
theorem dX0_cut_2 : decode cX0_cut 2 = .ok (.invokevirtual 143, 3) := dk_182 0 143 (dk_at dksX0_cut_0 2 rfl rfl)
theorem dX0_cut_5 : decode cX0_cut 5 = .ok (.ifCond .ne 10, 3) := dk_154 0 10 (dk_at dksX0_cut_0 5 rfl rfl)
theorem dX0_cut_8 : decode cX0_cut 8 = .ok (.aload_n 0, 1) := dk_42 (dk_at dksX0_cut_0 8 rfl rfl)
theorem dX0_cut_9 : decode cX0_cut 9 = .ok (.bipush 7, 2) := dk_16 7 (dk_at dksX0_cut_0 9 rfl rfl)
theorem dX0_cut_11 : decode cX0_cut 11 = .ok (.invokevirtual 47, 3) := dk_182 0 47 (dk_at dksX0_cut_0 11 rfl rfl)
theorem dX0_cut_14 : decode cX0_cut 14 = .ok (.ireturn, 1) := dk_172 (dk_at dksX0_cut_0 14 rfl rfl)
theorem dX0_cut_15 : decode cX0_cut 15 = .ok (.aload_n 0, 1) := dk_42 (dk_at dksX0_cut_0 15 rfl rfl)
theorem dX0_cut_16 : decode cX0_cut 16 = .ok (.getfield 18, 3) := dk_180 0 18 (dk_at dksX0_cut_0 16 rfl rfl)
theorem dX0_cut_19 : decode cX0_cut 19 = .ok (.iload_n 1, 1) := dk_27 (dk_at dksX0_cut_0 19 rfl rfl)
theorem dX0_cut_20 : decode cX0_cut 20 = .ok (.aaload, 1) := dk_50 (dk_at dksX0_cut_0 20 rfl rfl)
theorem dX0_cut_21 : decode cX0_cut 21 = .ok (.getfield 101, 3) := dk_180 0 101 (dk_at dksX0_cut_0 21 rfl rfl)
theorem dX0_cut_24 : decode cX0_cut 24 = .ok (.astore_n 2, 1) := dk_77 (dk_at dksX0_cut_1 0 rfl rfl)
theorem dX0_cut_25 : decode cX0_cut 25 = .ok (.aload_n 0, 1) := dk_42 (dk_at dksX0_cut_1 1 rfl rfl)
theorem dX0_cut_26 : decode cX0_cut 26 = .ok (.getfield 18, 3) := dk_180 0 18 (dk_at dksX0_cut_1 2 rfl rfl)
theorem dX0_cut_29 : decode cX0_cut 29 = .ok (.iload_n 1, 1) := dk_27 (dk_at dksX0_cut_1 5 rfl rfl)
theorem dX0_cut_30 : decode cX0_cut 30 = .ok (.aaload, 1) := dk_50 (dk_at dksX0_cut_1 6 rfl rfl)
theorem dX0_cut_31 : decode cX0_cut 31 = .ok (.getfield 96, 3) := dk_180 0 96 (dk_at dksX0_cut_1 7 rfl rfl)
theorem dX0_cut_34 : decode cX0_cut 34 = .ok (.astore_n 3, 1) := dk_78 (dk_at dksX0_cut_1 10 rfl rfl)
theorem dX0_cut_35 : decode cX0_cut 35 = .ok (.aload_n 2, 1) := dk_44 (dk_at dksX0_cut_1 11 rfl rfl)
theorem dX0_cut_36 : decode cX0_cut 36 = .ok (.instanceof 58, 3) := dk_193 0 58 (dk_at dksX0_cut_1 12 rfl rfl)
theorem dX0_cut_39 : decode cX0_cut 39 = .ok (.ifCond .eq 9, 3) := dk_153 0 9 (dk_at dksX0_cut_1 15 rfl rfl)
theorem dX0_cut_42 : decode cX0_cut 42 = .ok (.aload_n 0, 1) := dk_42 (dk_at dksX0_cut_1 18 rfl rfl)
theorem dX0_cut_43 : decode cX0_cut 43 = .ok (.iconst 2, 1) := dk_5 (dk_at dksX0_cut_1 19 rfl rfl)
theorem dX0_cut_44 : decode cX0_cut 44 = .ok (.invokevirtual 47, 3) := dk_182 0 47 (dk_at dksX0_cut_1 20 rfl rfl)
theorem dX0_cut_47 : decode cX0_cut 47 = .ok (.ireturn, 1) := dk_172 (dk_at dksX0_cut_1 23 rfl rfl)
theorem dX0_cut_48 : decode cX0_cut 48 = .ok (.aload_n 0, 1) := dk_42 (dk_at dksX0_cut_2 0 rfl rfl)
theorem dX0_cut_49 : decode cX0_cut 49 = .ok (.getfield 10, 3) := dk_180 0 10 (dk_at dksX0_cut_2 1 rfl rfl)
theorem dX0_cut_52 : decode cX0_cut 52 = .ok (.getfield 108, 3) := dk_180 0 108 (dk_at dksX0_cut_2 4 rfl rfl)
theorem dX0_cut_55 : decode cX0_cut 55 = .ok (.aload_n 3, 1) := dk_45 (dk_at dksX0_cut_2 7 rfl rfl)
theorem dX0_cut_56 : decode cX0_cut 56 = .ok (.getfield 108, 3) := dk_180 0 108 (dk_at dksX0_cut_2 8 rfl rfl)
theorem dX0_cut_59 : decode cX0_cut 59 = .ok (.if_icmp .eq 10, 3) := dk_159 0 10 (dk_at dksX0_cut_2 11 rfl rfl)
theorem dX0_cut_62 : decode cX0_cut 62 = .ok (.aload_n 0, 1) := dk_42 (dk_at dksX0_cut_2 14 rfl rfl)
theorem dX0_cut_63 : decode cX0_cut 63 = .ok (.bipush 9, 2) := dk_16 9 (dk_at dksX0_cut_2 15 rfl rfl)
theorem dX0_cut_65 : decode cX0_cut 65 = .ok (.invokevirtual 47, 3) := dk_182 0 47 (dk_at dksX0_cut_2 17 rfl rfl)
theorem dX0_cut_68 : decode cX0_cut 68 = .ok (.ireturn, 1) := dk_172 (dk_at dksX0_cut_2 20 rfl rfl)
theorem dX0_cut_69 : decode cX0_cut 69 = .ok (.aload_n 0, 1) := dk_42 (dk_at dksX0_cut_2 21 rfl rfl)
theorem dX0_cut_70 : decode cX0_cut 70 = .ok (.getfield 10, 3) := dk_180 0 10 (dk_at dksX0_cut_3 0 rfl rfl)
theorem dX0_cut_73 : decode cX0_cut 73 = .ok (.invokevirtual 120, 3) := dk_182 0 120 (dk_at dksX0_cut_3 3 rfl rfl)
theorem dX0_cut_76 : decode cX0_cut 76 = .ok (.istore 4, 2) := dk_54 4 (dk_at dksX0_cut_3 6 rfl rfl)
theorem dX0_cut_78 : decode cX0_cut 78 = .ok (.iload 4, 2) := dk_21 4 (dk_at dksX0_cut_3 8 rfl rfl)
theorem dX0_cut_80 : decode cX0_cut 80 = .ok (.sipush 500, 3) := dk_17 1 244 (dk_at dksX0_cut_3 10 rfl rfl)
theorem dX0_cut_83 : decode cX0_cut 83 = .ok (.if_icmp .le 9, 3) := dk_164 0 9 (dk_at dksX0_cut_3 13 rfl rfl)
theorem dX0_cut_86 : decode cX0_cut 86 = .ok (.aload_n 0, 1) := dk_42 (dk_at dksX0_cut_3 16 rfl rfl)
theorem dX0_cut_87 : decode cX0_cut 87 = .ok (.iconst 5, 1) := dk_8 (dk_at dksX0_cut_3 17 rfl rfl)
theorem dX0_cut_88 : decode cX0_cut 88 = .ok (.invokevirtual 47, 3) := dk_182 0 47 (dk_at dksX0_cut_3 18 rfl rfl)
theorem dX0_cut_91 : decode cX0_cut 91 = .ok (.ireturn, 1) := dk_172 (dk_at dksX0_cut_3 21 rfl rfl)
theorem dX0_cut_92 : decode cX0_cut 92 = .ok (.aload_n 2, 1) := dk_44 (dk_at dksX0_cut_3 22 rfl rfl)
theorem dX0_cut_93 : decode cX0_cut 93 = .ok (.invokestatic 62, 3) := dk_184 0 62 (dk_at dksX0_cut_4 0 rfl rfl)
theorem dX0_cut_96 : decode cX0_cut 96 = .ok (.iload 4, 2) := dk_21 4 (dk_at dksX0_cut_4 3 rfl rfl)
theorem dX0_cut_98 : decode cX0_cut 98 = .ok (.invokestatic 134, 3) := dk_184 0 134 (dk_at dksX0_cut_4 5 rfl rfl)
theorem dX0_cut_101 : decode cX0_cut 101 = .ok (.astore 5, 2) := dk_58 5 (dk_at dksX0_cut_4 8 rfl rfl)
theorem dX0_cut_103 : decode cX0_cut 103 = .ok (.aload_n 0, 1) := dk_42 (dk_at dksX0_cut_4 10 rfl rfl)
theorem dX0_cut_104 : decode cX0_cut 104 = .ok (.getfield 10, 3) := dk_180 0 10 (dk_at dksX0_cut_4 11 rfl rfl)
theorem dX0_cut_107 : decode cX0_cut 107 = .ok (.aload_n 0, 1) := dk_42 (dk_at dksX0_cut_4 14 rfl rfl)
theorem dX0_cut_108 : decode cX0_cut 108 = .ok (.getfield 34, 3) := dk_180 0 34 (dk_at dksX0_cut_4 15 rfl rfl)
theorem dX0_cut_111 : decode cX0_cut 111 = .ok (.invokevirtual 156, 3) := dk_182 0 156 (dk_at dksX0_cut_4 18 rfl rfl)
theorem dX0_cut_114 : decode cX0_cut 114 = .ok (.iconst 0, 1) := dk_3 (dk_at dksX0_cut_4 21 rfl rfl)
theorem dX0_cut_115 : decode cX0_cut 115 = .ok (.istore 6, 2) := dk_54 6 (dk_at dksX0_cut_4 22 rfl rfl)
theorem dX0_cut_117 : decode cX0_cut 117 = .ok (.iload 6, 2) := dk_21 6 (dk_at dksX0_cut_5 0 rfl rfl)
theorem dX0_cut_119 : decode cX0_cut 119 = .ok (.iload 4, 2) := dk_21 4 (dk_at dksX0_cut_5 2 rfl rfl)
theorem dX0_cut_121 : decode cX0_cut 121 = .ok (.if_icmp .ge 59, 3) := dk_162 0 59 (dk_at dksX0_cut_5 4 rfl rfl)
theorem dX0_cut_124 : decode cX0_cut 124 = .ok (.aload_n 3, 1) := dk_45 (dk_at dksX0_cut_5 7 rfl rfl)
theorem dX0_cut_125 : decode cX0_cut 125 = .ok (.aload_n 0, 1) := dk_42 (dk_at dksX0_cut_5 8 rfl rfl)
theorem dX0_cut_126 : decode cX0_cut 126 = .ok (.getfield 34, 3) := dk_180 0 34 (dk_at dksX0_cut_5 9 rfl rfl)
theorem dX0_cut_129 : decode cX0_cut 129 = .ok (.invokevirtual 171, 3) := dk_182 0 171 (dk_at dksX0_cut_5 12 rfl rfl)
theorem dX0_cut_132 : decode cX0_cut 132 = .ok (.istore 7, 2) := dk_54 7 (dk_at dksX0_cut_5 15 rfl rfl)
theorem dX0_cut_134 : decode cX0_cut 134 = .ok (.iload 7, 2) := dk_21 7 (dk_at dksX0_cut_5 17 rfl rfl)
theorem dX0_cut_136 : decode cX0_cut 136 = .ok (.iconst (-1), 1) := dk_2 (dk_at dksX0_cut_5 19 rfl rfl)
theorem dX0_cut_137 : decode cX0_cut 137 = .ok (.if_icmp .eq 10, 3) := dk_159 0 10 (dk_at dksX0_cut_5 20 rfl rfl)
theorem dX0_cut_140 : decode cX0_cut 140 = .ok (.aload_n 0, 1) := dk_42 (dk_at dksX0_cut_5 23 rfl rfl)
theorem dX0_cut_141 : decode cX0_cut 141 = .ok (.iload 7, 2) := dk_21 7 (dk_at dksX0_cut_6 0 rfl rfl)
theorem dX0_cut_143 : decode cX0_cut 143 = .ok (.invokevirtual 174, 3) := dk_182 0 174 (dk_at dksX0_cut_6 2 rfl rfl)
theorem dX0_cut_146 : decode cX0_cut 146 = .ok (.ireturn, 1) := dk_172 (dk_at dksX0_cut_6 5 rfl rfl)
theorem dX0_cut_147 : decode cX0_cut 147 = .ok (.aload_n 2, 1) := dk_44 (dk_at dksX0_cut_6 6 rfl rfl)
theorem dX0_cut_148 : decode cX0_cut 148 = .ok (.aload_n 3, 1) := dk_45 (dk_at dksX0_cut_6 7 rfl rfl)
theorem dX0_cut_149 : decode cX0_cut 149 = .ok (.aload_n 0, 1) := dk_42 (dk_at dksX0_cut_6 8 rfl rfl)
theorem dX0_cut_150 : decode cX0_cut 150 = .ok (.getfield 34, 3) := dk_180 0 34 (dk_at dksX0_cut_6 9 rfl rfl)
theorem dX0_cut_153 : decode cX0_cut 153 = .ok (.invokevirtual 160, 3) := dk_182 0 160 (dk_at dksX0_cut_6 12 rfl rfl)
theorem dX0_cut_156 : decode cX0_cut 156 = .ok (.aload 5, 2) := dk_25 5 (dk_at dksX0_cut_6 15 rfl rfl)
theorem dX0_cut_158 : decode cX0_cut 158 = .ok (.iload 6, 2) := dk_21 6 (dk_at dksX0_cut_6 17 rfl rfl)
theorem dX0_cut_160 : decode cX0_cut 160 = .ok (.invokestatic 164, 3) := dk_184 0 164 (dk_at dksX0_cut_6 19 rfl rfl)
theorem dX0_cut_163 : decode cX0_cut 163 = .ok (.aload_n 0, 1) := dk_42 (dk_at dksX0_cut_6 22 rfl rfl)
theorem dX0_cut_164 : decode cX0_cut 164 = .ok (.getfield 10, 3) := dk_180 0 10 (dk_at dksX0_cut_7 0 rfl rfl)
theorem dX0_cut_167 : decode cX0_cut 167 = .ok (.aload_n 0, 1) := dk_42 (dk_at dksX0_cut_7 3 rfl rfl)
theorem dX0_cut_168 : decode cX0_cut 168 = .ok (.getfield 34, 3) := dk_180 0 34 (dk_at dksX0_cut_7 4 rfl rfl)
theorem dX0_cut_171 : decode cX0_cut 171 = .ok (.invokevirtual 168, 3) := dk_182 0 168 (dk_at dksX0_cut_7 7 rfl rfl)
theorem dX0_cut_174 : decode cX0_cut 174 = .ok (.iinc 6 1, 3) := dk_132 6 1 (dk_at dksX0_cut_7 10 rfl rfl)
theorem dX0_cut_177 : decode cX0_cut 177 = .ok (.goto (-60), 3) := dk_167 255 196 (dk_at dksX0_cut_7 13 rfl rfl)
theorem dX0_cut_180 : decode cX0_cut 180 = .ok (.aload_n 0, 1) := dk_42 (dk_at dksX0_cut_7 16 rfl rfl)
theorem dX0_cut_181 : decode cX0_cut 181 = .ok (.getfield 51, 3) := dk_180 0 51 (dk_at dksX0_cut_7 17 rfl rfl)
theorem dX0_cut_184 : decode cX0_cut 184 = .ok (.bipush 24, 2) := dk_16 24 (dk_at dksX0_cut_7 20 rfl rfl)
theorem dX0_cut_186 : decode cX0_cut 186 = .ok (.if_icmp .ne 10, 3) := dk_160 0 10 (dk_at dksX0_cut_8 0 rfl rfl)
theorem dX0_cut_189 : decode cX0_cut 189 = .ok (.aload_n 0, 1) := dk_42 (dk_at dksX0_cut_8 3 rfl rfl)
theorem dX0_cut_190 : decode cX0_cut 190 = .ok (.bipush 8, 2) := dk_16 8 (dk_at dksX0_cut_8 4 rfl rfl)
theorem dX0_cut_192 : decode cX0_cut 192 = .ok (.invokevirtual 47, 3) := dk_182 0 47 (dk_at dksX0_cut_8 6 rfl rfl)
theorem dX0_cut_195 : decode cX0_cut 195 = .ok (.ireturn, 1) := dk_172 (dk_at dksX0_cut_8 9 rfl rfl)
theorem dX0_cut_196 : decode cX0_cut 196 = .ok (.aload_n 0, 1) := dk_42 (dk_at dksX0_cut_8 10 rfl rfl)
theorem dX0_cut_197 : decode cX0_cut 197 = .ok (.aload_n 0, 1) := dk_42 (dk_at dksX0_cut_8 11 rfl rfl)
theorem dX0_cut_198 : decode cX0_cut 198 = .ok (.getfield 10, 3) := dk_180 0 10 (dk_at dksX0_cut_8 12 rfl rfl)
theorem dX0_cut_201 : decode cX0_cut 201 = .ok (.aload 5, 2) := dk_25 5 (dk_at dksX0_cut_8 15 rfl rfl)
theorem dX0_cut_203 : decode cX0_cut 203 = .ok (.invokevirtual 137, 3) := dk_182 0 137 (dk_at dksX0_cut_8 17 rfl rfl)
theorem dX0_cut_206 : decode cX0_cut 206 = .ok (.istore 6, 2) := dk_54 6 (dk_at dksX0_cut_8 20 rfl rfl)
theorem dX0_cut_208 : decode cX0_cut 208 = .ok (.aload_n 0, 1) := dk_42 (dk_at dksX0_cut_8 22 rfl rfl)
theorem dX0_cut_209 : decode cX0_cut 209 = .ok (.getfield 10, 3) := dk_180 0 10 (dk_at dksX0_cut_9 0 rfl rfl)
theorem dX0_cut_212 : decode cX0_cut 212 = .ok (.iconst 0, 1) := dk_3 (dk_at dksX0_cut_9 3 rfl rfl)
theorem dX0_cut_213 : decode cX0_cut 213 = .ok (.putfield 108, 3) := dk_181 0 108 (dk_at dksX0_cut_9 4 rfl rfl)
theorem dX0_cut_216 : decode cX0_cut 216 = .ok (.iload 6, 2) := dk_21 6 (dk_at dksX0_cut_9 7 rfl rfl)
theorem dX0_cut_218 : decode cX0_cut 218 = .ok (.ireturn, 1) := dk_172 (dk_at dksX0_cut_9 9 rfl rfl)
abbrev cX0_beyond : ByteArray := prog_1_method_3_code
def yX0_beyond : MethodName := ⟨RX0, "beyond", "(I)I"⟩
def dkwX0_beyond_0 : List UInt8 := [42, 27, 181, 0, 22, 42, 6, 182, 0, 47, 172]
abbrev dktX0_beyond_0 : List UInt8 := dkwX0_beyond_0 ++ []
theorem dksX0_beyond_0 : cX0_beyond.data.toList.drop 0 = dktX0_beyond_0 := by decide +kernel
theorem dX0_beyond_0 : decode cX0_beyond 0 = .ok (.aload_n 0, 1) := dk_42 (dk_at dksX0_beyond_0 0 rfl rfl)
theorem dX0_beyond_1 : decode cX0_beyond 1 = .ok (.iload_n 1, 1) := dk_27 (dk_at dksX0_beyond_0 1 rfl rfl)
theorem dX0_beyond_2 : decode cX0_beyond 2 = .ok (.putfield 22, 3) := dk_181 0 22 (dk_at dksX0_beyond_0 2 rfl rfl)
theorem dX0_beyond_5 : decode cX0_beyond 5 = .ok (.aload_n 0, 1) := dk_42 (dk_at dksX0_beyond_0 5 rfl rfl)
theorem dX0_beyond_6 : decode cX0_beyond 6 = .ok (.iconst 3, 1) := dk_6 (dk_at dksX0_beyond_0 6 rfl rfl)
theorem dX0_beyond_7 : decode cX0_beyond 7 = .ok (.invokevirtual 47, 3) := dk_182 0 47 (dk_at dksX0_beyond_0 7 rfl rfl)
theorem dX0_beyond_10 : decode cX0_beyond 10 = .ok (.ireturn, 1) := dk_172 (dk_at dksX0_beyond_0 10 rfl rfl)
abbrev cX0_deep : ByteArray := prog_1_method_25_code
def yX0_deep : MethodName := ⟨RX0, "deep", "(I)I"⟩
def dkwX0_deep_7 : List UInt8 := [172, 78, 42, 5, 182, 0, 47, 172]
abbrev dktX0_deep_7 : List UInt8 := dkwX0_deep_7 ++ []
def dkwX0_deep_6 : List UInt8 := [25, 6, 21, 7, 50, 3, 21, 5, 184, 0, 150, 132, 7, 1, 167, 255, 220, 42, 44, 25, 6, 182, 0, 137]
abbrev dktX0_deep_6 : List UInt8 := dkwX0_deep_6 ++ dktX0_deep_7
def dkwX0_deep_5 : List UInt8 := [54, 7, 21, 7, 21, 4, 162, 0, 35, 25, 6, 21, 7, 21, 5, 188, 10, 83, 45, 21, 5, 21, 7, 104]
abbrev dktX0_deep_5 : List UInt8 := dkwX0_deep_5 ++ dktX0_deep_6
def dkwX0_deep_4 : List UInt8 := [21, 4, 154, 0, 7, 3, 167, 0, 8, 45, 190, 21, 4, 108, 54, 5, 21, 4, 189, 0, 56, 58, 6, 3]
abbrev dktX0_deep_4 : List UInt8 := dkwX0_deep_4 ++ dktX0_deep_5
def dkwX0_deep_3 : List UInt8 := [42, 180, 0, 51, 16, 24, 160, 0, 10, 42, 16, 8, 182, 0, 47, 172, 44, 3, 182, 0, 124, 136, 54, 4]
abbrev dktX0_deep_3 : List UInt8 := dkwX0_deep_3 ++ dktX0_deep_4
def dkwX0_deep_2 : List UInt8 := [16, 9, 182, 0, 47, 172, 44, 3, 182, 0, 124, 20, 0, 128, 148, 158, 0, 9, 42, 8, 182, 0, 47, 172]
abbrev dktX0_deep_2 : List UInt8 := dkwX0_deep_2 ++ dktX0_deep_3
def dkwX0_deep_1 : List UInt8 := [77, 42, 180, 0, 18, 27, 50, 180, 0, 101, 192, 0, 56, 78, 44, 180, 0, 108, 5, 159, 0, 10, 42]
abbrev dktX0_deep_1 : List UInt8 := dkwX0_deep_1 ++ dktX0_deep_2
def dkwX0_deep_0 : List UInt8 := [42, 27, 182, 0, 143, 154, 0, 10, 42, 16, 7, 182, 0, 47, 172, 42, 180, 0, 18, 27, 50, 180, 0, 96]
abbrev dktX0_deep_0 : List UInt8 := dkwX0_deep_0 ++ dktX0_deep_1
theorem dksX0_deep_0 : cX0_deep.data.toList.drop 0 = dktX0_deep_0 := by decide +kernel
theorem dksX0_deep_1 : cX0_deep.data.toList.drop 24 = dktX0_deep_1 := dk_seg dksX0_deep_0 24 rfl rfl
theorem dksX0_deep_2 : cX0_deep.data.toList.drop 47 = dktX0_deep_2 := dk_seg dksX0_deep_1 23 rfl rfl
theorem dksX0_deep_3 : cX0_deep.data.toList.drop 71 = dktX0_deep_3 := dk_seg dksX0_deep_2 24 rfl rfl
theorem dksX0_deep_4 : cX0_deep.data.toList.drop 95 = dktX0_deep_4 := dk_seg dksX0_deep_3 24 rfl rfl
theorem dksX0_deep_5 : cX0_deep.data.toList.drop 119 = dktX0_deep_5 := dk_seg dksX0_deep_4 24 rfl rfl
theorem dksX0_deep_6 : cX0_deep.data.toList.drop 143 = dktX0_deep_6 := dk_seg dksX0_deep_5 24 rfl rfl
theorem dksX0_deep_7 : cX0_deep.data.toList.drop 167 = dktX0_deep_7 := dk_seg dksX0_deep_6 24 rfl rfl
theorem dX0_deep_0 : decode cX0_deep 0 = .ok (.aload_n 0, 1) := dk_42 (dk_at dksX0_deep_0 0 rfl rfl)
theorem dX0_deep_1 : decode cX0_deep 1 = .ok (.iload_n 1, 1) := dk_27 (dk_at dksX0_deep_0 1 rfl rfl)
theorem dX0_deep_2 : decode cX0_deep 2 = .ok (.invokevirtual 143, 3) := dk_182 0 143 (dk_at dksX0_deep_0 2 rfl rfl)
theorem dX0_deep_5 : decode cX0_deep 5 = .ok (.ifCond .ne 10, 3) := dk_154 0 10 (dk_at dksX0_deep_0 5 rfl rfl)
theorem dX0_deep_8 : decode cX0_deep 8 = .ok (.aload_n 0, 1) := dk_42 (dk_at dksX0_deep_0 8 rfl rfl)
theorem dX0_deep_9 : decode cX0_deep 9 = .ok (.bipush 7, 2) := dk_16 7 (dk_at dksX0_deep_0 9 rfl rfl)
theorem dX0_deep_11 : decode cX0_deep 11 = .ok (.invokevirtual 47, 3) := dk_182 0 47 (dk_at dksX0_deep_0 11 rfl rfl)
theorem dX0_deep_14 : decode cX0_deep 14 = .ok (.ireturn, 1) := dk_172 (dk_at dksX0_deep_0 14 rfl rfl)
theorem dX0_deep_15 : decode cX0_deep 15 = .ok (.aload_n 0, 1) := dk_42 (dk_at dksX0_deep_0 15 rfl rfl)
theorem dX0_deep_16 : decode cX0_deep 16 = .ok (.getfield 18, 3) := dk_180 0 18 (dk_at dksX0_deep_0 16 rfl rfl)
theorem dX0_deep_19 : decode cX0_deep 19 = .ok (.iload_n 1, 1) := dk_27 (dk_at dksX0_deep_0 19 rfl rfl)
theorem dX0_deep_20 : decode cX0_deep 20 = .ok (.aaload, 1) := dk_50 (dk_at dksX0_deep_0 20 rfl rfl)
theorem dX0_deep_21 : decode cX0_deep 21 = .ok (.getfield 96, 3) := dk_180 0 96 (dk_at dksX0_deep_0 21 rfl rfl)
theorem dX0_deep_24 : decode cX0_deep 24 = .ok (.astore_n 2, 1) := dk_77 (dk_at dksX0_deep_1 0 rfl rfl)
theorem dX0_deep_25 : decode cX0_deep 25 = .ok (.aload_n 0, 1) := dk_42 (dk_at dksX0_deep_1 1 rfl rfl)
theorem dX0_deep_26 : decode cX0_deep 26 = .ok (.getfield 18, 3) := dk_180 0 18 (dk_at dksX0_deep_1 2 rfl rfl)
theorem dX0_deep_29 : decode cX0_deep 29 = .ok (.iload_n 1, 1) := dk_27 (dk_at dksX0_deep_1 5 rfl rfl)
theorem dX0_deep_30 : decode cX0_deep 30 = .ok (.aaload, 1) := dk_50 (dk_at dksX0_deep_1 6 rfl rfl)
theorem dX0_deep_31 : decode cX0_deep 31 = .ok (.getfield 101, 3) := dk_180 0 101 (dk_at dksX0_deep_1 7 rfl rfl)
theorem dX0_deep_34 : decode cX0_deep 34 = .ok (.checkcast 56, 3) := dk_192 0 56 (dk_at dksX0_deep_1 10 rfl rfl)
theorem dX0_deep_37 : decode cX0_deep 37 = .ok (.astore_n 3, 1) := dk_78 (dk_at dksX0_deep_1 13 rfl rfl)
theorem dX0_deep_38 : decode cX0_deep 38 = .ok (.aload_n 2, 1) := dk_44 (dk_at dksX0_deep_1 14 rfl rfl)
theorem dX0_deep_39 : decode cX0_deep 39 = .ok (.getfield 108, 3) := dk_180 0 108 (dk_at dksX0_deep_1 15 rfl rfl)
theorem dX0_deep_42 : decode cX0_deep 42 = .ok (.iconst 2, 1) := dk_5 (dk_at dksX0_deep_1 18 rfl rfl)
theorem dX0_deep_43 : decode cX0_deep 43 = .ok (.if_icmp .eq 10, 3) := dk_159 0 10 (dk_at dksX0_deep_1 19 rfl rfl)
theorem dX0_deep_46 : decode cX0_deep 46 = .ok (.aload_n 0, 1) := dk_42 (dk_at dksX0_deep_1 22 rfl rfl)
theorem dX0_deep_47 : decode cX0_deep 47 = .ok (.bipush 9, 2) := dk_16 9 (dk_at dksX0_deep_2 0 rfl rfl)
theorem dX0_deep_49 : decode cX0_deep 49 = .ok (.invokevirtual 47, 3) := dk_182 0 47 (dk_at dksX0_deep_2 2 rfl rfl)
theorem dX0_deep_52 : decode cX0_deep 52 = .ok (.ireturn, 1) := dk_172 (dk_at dksX0_deep_2 5 rfl rfl)
theorem dX0_deep_53 : decode cX0_deep 53 = .ok (.aload_n 2, 1) := dk_44 (dk_at dksX0_deep_2 6 rfl rfl)
theorem dX0_deep_54 : decode cX0_deep 54 = .ok (.iconst 0, 1) := dk_3 (dk_at dksX0_deep_2 7 rfl rfl)
theorem dX0_deep_55 : decode cX0_deep 55 = .ok (.invokevirtual 124, 3) := dk_182 0 124 (dk_at dksX0_deep_2 8 rfl rfl)
theorem dX0_deep_58 : decode cX0_deep 58 = .ok (.ldc2_w 128, 3) := dk_20 0 128 (dk_at dksX0_deep_2 11 rfl rfl)
theorem dX0_deep_61 : decode cX0_deep 61 = .ok (.lcmp, 1) := dk_148 (dk_at dksX0_deep_2 14 rfl rfl)
theorem dX0_deep_62 : decode cX0_deep 62 = .ok (.ifCond .le 9, 3) := dk_158 0 9 (dk_at dksX0_deep_2 15 rfl rfl)
theorem dX0_deep_65 : decode cX0_deep 65 = .ok (.aload_n 0, 1) := dk_42 (dk_at dksX0_deep_2 18 rfl rfl)
theorem dX0_deep_66 : decode cX0_deep 66 = .ok (.iconst 5, 1) := dk_8 (dk_at dksX0_deep_2 19 rfl rfl)
theorem dX0_deep_67 : decode cX0_deep 67 = .ok (.invokevirtual 47, 3) := dk_182 0 47 (dk_at dksX0_deep_2 20 rfl rfl)
theorem dX0_deep_70 : decode cX0_deep 70 = .ok (.ireturn, 1) := dk_172 (dk_at dksX0_deep_2 23 rfl rfl)
theorem dX0_deep_71 : decode cX0_deep 71 = .ok (.aload_n 0, 1) := dk_42 (dk_at dksX0_deep_3 0 rfl rfl)
theorem dX0_deep_72 : decode cX0_deep 72 = .ok (.getfield 51, 3) := dk_180 0 51 (dk_at dksX0_deep_3 1 rfl rfl)
theorem dX0_deep_75 : decode cX0_deep 75 = .ok (.bipush 24, 2) := dk_16 24 (dk_at dksX0_deep_3 4 rfl rfl)
theorem dX0_deep_77 : decode cX0_deep 77 = .ok (.if_icmp .ne 10, 3) := dk_160 0 10 (dk_at dksX0_deep_3 6 rfl rfl)
theorem dX0_deep_80 : decode cX0_deep 80 = .ok (.aload_n 0, 1) := dk_42 (dk_at dksX0_deep_3 9 rfl rfl)
theorem dX0_deep_81 : decode cX0_deep 81 = .ok (.bipush 8, 2) := dk_16 8 (dk_at dksX0_deep_3 10 rfl rfl)
theorem dX0_deep_83 : decode cX0_deep 83 = .ok (.invokevirtual 47, 3) := dk_182 0 47 (dk_at dksX0_deep_3 12 rfl rfl)
theorem dX0_deep_86 : decode cX0_deep 86 = .ok (.ireturn, 1) := dk_172 (dk_at dksX0_deep_3 15 rfl rfl)
theorem dX0_deep_87 : decode cX0_deep 87 = .ok (.aload_n 2, 1) := dk_44 (dk_at dksX0_deep_3 16 rfl rfl)
theorem dX0_deep_88 : decode cX0_deep 88 = .ok (.iconst 0, 1) := dk_3 (dk_at dksX0_deep_3 17 rfl rfl)
theorem dX0_deep_89 : decode cX0_deep 89 = .ok (.invokevirtual 124, 3) := dk_182 0 124 (dk_at dksX0_deep_3 18 rfl rfl)
theorem dX0_deep_92 : decode cX0_deep 92 = .ok (.l2i, 1) := dk_136 (dk_at dksX0_deep_3 21 rfl rfl)
theorem dX0_deep_93 : decode cX0_deep 93 = .ok (.istore 4, 2) := dk_54 4 (dk_at dksX0_deep_3 22 rfl rfl)
theorem dX0_deep_95 : decode cX0_deep 95 = .ok (.iload 4, 2) := dk_21 4 (dk_at dksX0_deep_4 0 rfl rfl)
theorem dX0_deep_97 : decode cX0_deep 97 = .ok (.ifCond .ne 7, 3) := dk_154 0 7 (dk_at dksX0_deep_4 2 rfl rfl)
theorem dX0_deep_100 : decode cX0_deep 100 = .ok (.iconst 0, 1) := dk_3 (dk_at dksX0_deep_4 5 rfl rfl)
theorem dX0_deep_101 : decode cX0_deep 101 = .ok (.goto 8, 3) := dk_167 0 8 (dk_at dksX0_deep_4 6 rfl rfl)
theorem dX0_deep_104 : decode cX0_deep 104 = .ok (.aload_n 3, 1) := dk_45 (dk_at dksX0_deep_4 9 rfl rfl)
theorem dX0_deep_105 : decode cX0_deep 105 = .ok (.arraylength, 1) := dk_190 (dk_at dksX0_deep_4 10 rfl rfl)
theorem dX0_deep_106 : decode cX0_deep 106 = .ok (.iload 4, 2) := dk_21 4 (dk_at dksX0_deep_4 11 rfl rfl)
theorem dX0_deep_108 : decode cX0_deep 108 = .ok (.idiv, 1) := dk_108 (dk_at dksX0_deep_4 13 rfl rfl)
theorem dX0_deep_109 : decode cX0_deep 109 = .ok (.istore 5, 2) := dk_54 5 (dk_at dksX0_deep_4 14 rfl rfl)
theorem dX0_deep_111 : decode cX0_deep 111 = .ok (.iload 4, 2) := dk_21 4 (dk_at dksX0_deep_4 16 rfl rfl)
theorem dX0_deep_113 : decode cX0_deep 113 = .ok (.anewarray 56, 3) := dk_189 0 56 (dk_at dksX0_deep_4 18 rfl rfl)
theorem dX0_deep_116 : decode cX0_deep 116 = .ok (.astore 6, 2) := dk_58 6 (dk_at dksX0_deep_4 21 rfl rfl)
theorem dX0_deep_118 : decode cX0_deep 118 = .ok (.iconst 0, 1) := dk_3 (dk_at dksX0_deep_4 23 rfl rfl)
theorem dX0_deep_119 : decode cX0_deep 119 = .ok (.istore 7, 2) := dk_54 7 (dk_at dksX0_deep_5 0 rfl rfl)
theorem dX0_deep_121 : decode cX0_deep 121 = .ok (.iload 7, 2) := dk_21 7 (dk_at dksX0_deep_5 2 rfl rfl)
theorem dX0_deep_123 : decode cX0_deep 123 = .ok (.iload 4, 2) := dk_21 4 (dk_at dksX0_deep_5 4 rfl rfl)
theorem dX0_deep_125 : decode cX0_deep 125 = .ok (.if_icmp .ge 35, 3) := dk_162 0 35 (dk_at dksX0_deep_5 6 rfl rfl)
theorem dX0_deep_128 : decode cX0_deep 128 = .ok (.aload 6, 2) := dk_25 6 (dk_at dksX0_deep_5 9 rfl rfl)
theorem dX0_deep_130 : decode cX0_deep 130 = .ok (.iload 7, 2) := dk_21 7 (dk_at dksX0_deep_5 11 rfl rfl)
theorem dX0_deep_132 : decode cX0_deep 132 = .ok (.iload 5, 2) := dk_21 5 (dk_at dksX0_deep_5 13 rfl rfl)
theorem dX0_deep_134 : decode cX0_deep 134 = .ok (.newarray .int, 2) := dk_188_10 (dk_at dksX0_deep_5 15 rfl rfl)
theorem dX0_deep_136 : decode cX0_deep 136 = .ok (.aastore, 1) := dk_83 (dk_at dksX0_deep_5 17 rfl rfl)
theorem dX0_deep_137 : decode cX0_deep 137 = .ok (.aload_n 3, 1) := dk_45 (dk_at dksX0_deep_5 18 rfl rfl)
theorem dX0_deep_138 : decode cX0_deep 138 = .ok (.iload 5, 2) := dk_21 5 (dk_at dksX0_deep_5 19 rfl rfl)
theorem dX0_deep_140 : decode cX0_deep 140 = .ok (.iload 7, 2) := dk_21 7 (dk_at dksX0_deep_5 21 rfl rfl)
theorem dX0_deep_142 : decode cX0_deep 142 = .ok (.imul, 1) := dk_104 (dk_at dksX0_deep_5 23 rfl rfl)
theorem dX0_deep_143 : decode cX0_deep 143 = .ok (.aload 6, 2) := dk_25 6 (dk_at dksX0_deep_6 0 rfl rfl)
theorem dX0_deep_145 : decode cX0_deep 145 = .ok (.iload 7, 2) := dk_21 7 (dk_at dksX0_deep_6 2 rfl rfl)
theorem dX0_deep_147 : decode cX0_deep 147 = .ok (.aaload, 1) := dk_50 (dk_at dksX0_deep_6 4 rfl rfl)
theorem dX0_deep_148 : decode cX0_deep 148 = .ok (.iconst 0, 1) := dk_3 (dk_at dksX0_deep_6 5 rfl rfl)
theorem dX0_deep_149 : decode cX0_deep 149 = .ok (.iload 5, 2) := dk_21 5 (dk_at dksX0_deep_6 6 rfl rfl)
theorem dX0_deep_151 : decode cX0_deep 151 = .ok (.invokestatic 150, 3) := dk_184 0 150 (dk_at dksX0_deep_6 8 rfl rfl)
theorem dX0_deep_154 : decode cX0_deep 154 = .ok (.iinc 7 1, 3) := dk_132 7 1 (dk_at dksX0_deep_6 11 rfl rfl)
theorem dX0_deep_157 : decode cX0_deep 157 = .ok (.goto (-36), 3) := dk_167 255 220 (dk_at dksX0_deep_6 14 rfl rfl)
theorem dX0_deep_160 : decode cX0_deep 160 = .ok (.aload_n 0, 1) := dk_42 (dk_at dksX0_deep_6 17 rfl rfl)
theorem dX0_deep_161 : decode cX0_deep 161 = .ok (.aload_n 2, 1) := dk_44 (dk_at dksX0_deep_6 18 rfl rfl)
theorem dX0_deep_162 : decode cX0_deep 162 = .ok (.aload 6, 2) := dk_25 6 (dk_at dksX0_deep_6 19 rfl rfl)
theorem dX0_deep_164 : decode cX0_deep 164 = .ok (.invokevirtual 137, 3) := dk_182 0 137 (dk_at dksX0_deep_6 21 rfl rfl)
theorem dX0_deep_167 : decode cX0_deep 167 = .ok (.ireturn, 1) := dk_172 (dk_at dksX0_deep_7 0 rfl rfl)
theorem dX0_deep_168 : decode cX0_deep 168 = .ok (.astore_n 3, 1) := dk_78 (dk_at dksX0_deep_7 1 rfl rfl)
theorem dX0_deep_169 : decode cX0_deep 169 = .ok (.aload_n 0, 1) := dk_42 (dk_at dksX0_deep_7 2 rfl rfl)
theorem dX0_deep_170 : decode cX0_deep 170 = .ok (.iconst 2, 1) := dk_5 (dk_at dksX0_deep_7 3 rfl rfl)
theorem dX0_deep_171 : decode cX0_deep 171 = .ok (.invokevirtual 47, 3) := dk_182 0 47 (dk_at dksX0_deep_7 4 rfl rfl)
theorem dX0_deep_174 : decode cX0_deep 174 = .ok (.ireturn, 1) := dk_172 (dk_at dksX0_deep_7 7 rfl rfl)
abbrev cX0_flat : ByteArray := prog_1_method_26_code
def yX0_flat : MethodName := ⟨RX0, "flat", "(I)I"⟩
def dkwX0_flat_8 : List UInt8 := [172]
abbrev dktX0_flat_8 : List UInt8 := dkwX0_flat_8 ++ []
def dkwX0_flat_7 : List UInt8 := [167, 255, 218, 42, 44, 25, 4, 182, 0, 137, 172, 78, 42, 5, 182, 0, 47, 172, 78, 42, 4, 182, 0, 47]
abbrev dktX0_flat_7 : List UInt8 := dkwX0_flat_7 ++ dktX0_flat_8
def dkwX0_flat_6 : List UInt8 := [25, 9, 3, 25, 4, 21, 5, 25, 9, 190, 184, 0, 150, 21, 5, 25, 9, 190, 96, 54, 5, 132, 8, 1]
abbrev dktX0_flat_6 : List UInt8 := dkwX0_flat_6 ++ dktX0_flat_7
def dkwX0_flat_5 : List UInt8 := [58, 6, 25, 6, 190, 54, 7, 3, 54, 8, 21, 8, 21, 7, 162, 0, 37, 25, 6, 21, 8, 50, 58, 9]
abbrev dktX0_flat_5 : List UInt8 := dkwX0_flat_5 ++ dktX0_flat_6
def dkwX0_flat_4 : List UInt8 := [16, 24, 160, 0, 10, 42, 16, 8, 182, 0, 47, 172, 44, 182, 0, 120, 188, 10, 58, 4, 3, 54, 5, 45]
abbrev dktX0_flat_4 : List UInt8 := dkwX0_flat_4 ++ dktX0_flat_5
def dkwX0_flat_3 : List UInt8 := [182, 0, 124, 148, 153, 0, 10, 42, 16, 11, 182, 0, 47, 172, 132, 6, 1, 167, 255, 219, 42, 180, 0, 51]
abbrev dktX0_flat_3 : List UInt8 := dkwX0_flat_3 ++ dktX0_flat_4
def dkwX0_flat_2 : List UInt8 := [54, 6, 21, 6, 21, 5, 162, 0, 36, 25, 4, 21, 6, 50, 58, 7, 25, 7, 190, 133, 44, 4]
abbrev dktX0_flat_2 : List UInt8 := dkwX0_flat_2 ++ dktX0_flat_3
def dkwX0_flat_1 : List UInt8 := [77, 42, 180, 0, 18, 27, 50, 180, 0, 101, 192, 0, 58, 78, 45, 58, 4, 25, 4, 190, 54, 5, 3]
abbrev dktX0_flat_1 : List UInt8 := dkwX0_flat_1 ++ dktX0_flat_2
def dkwX0_flat_0 : List UInt8 := [42, 27, 182, 0, 143, 154, 0, 10, 42, 16, 7, 182, 0, 47, 172, 42, 180, 0, 18, 27, 50, 180, 0, 96]
abbrev dktX0_flat_0 : List UInt8 := dkwX0_flat_0 ++ dktX0_flat_1
theorem dksX0_flat_0 : cX0_flat.data.toList.drop 0 = dktX0_flat_0 := by decide +kernel
theorem dksX0_flat_1 : cX0_flat.data.toList.drop 24 = dktX0_flat_1 := dk_seg dksX0_flat_0 24 rfl rfl
theorem dksX0_flat_2 : cX0_flat.data.toList.drop 47 = dktX0_flat_2 := dk_seg dksX0_flat_1 23 rfl rfl
theorem dksX0_flat_3 : cX0_flat.data.toList.drop 69 = dktX0_flat_3 := dk_seg dksX0_flat_2 22 rfl rfl
theorem dksX0_flat_4 : cX0_flat.data.toList.drop 93 = dktX0_flat_4 := dk_seg dksX0_flat_3 24 rfl rfl
theorem dksX0_flat_5 : cX0_flat.data.toList.drop 117 = dktX0_flat_5 := dk_seg dksX0_flat_4 24 rfl rfl
theorem dksX0_flat_6 : cX0_flat.data.toList.drop 141 = dktX0_flat_6 := dk_seg dksX0_flat_5 24 rfl rfl
theorem dksX0_flat_7 : cX0_flat.data.toList.drop 165 = dktX0_flat_7 := dk_seg dksX0_flat_6 24 rfl rfl
theorem dksX0_flat_8 : cX0_flat.data.toList.drop 189 = dktX0_flat_8 := dk_seg dksX0_flat_7 24 rfl rfl
theorem dX0_flat_0 : decode cX0_flat 0 = .ok (.aload_n 0, 1) := dk_42 (dk_at dksX0_flat_0 0 rfl rfl)
theorem dX0_flat_1 : decode cX0_flat 1 = .ok (.iload_n 1, 1) := dk_27 (dk_at dksX0_flat_0 1 rfl rfl)
theorem dX0_flat_2 : decode cX0_flat 2 = .ok (.invokevirtual 143, 3) := dk_182 0 143 (dk_at dksX0_flat_0 2 rfl rfl)
theorem dX0_flat_5 : decode cX0_flat 5 = .ok (.ifCond .ne 10, 3) := dk_154 0 10 (dk_at dksX0_flat_0 5 rfl rfl)
theorem dX0_flat_8 : decode cX0_flat 8 = .ok (.aload_n 0, 1) := dk_42 (dk_at dksX0_flat_0 8 rfl rfl)
theorem dX0_flat_9 : decode cX0_flat 9 = .ok (.bipush 7, 2) := dk_16 7 (dk_at dksX0_flat_0 9 rfl rfl)
theorem dX0_flat_11 : decode cX0_flat 11 = .ok (.invokevirtual 47, 3) := dk_182 0 47 (dk_at dksX0_flat_0 11 rfl rfl)
theorem dX0_flat_14 : decode cX0_flat 14 = .ok (.ireturn, 1) := dk_172 (dk_at dksX0_flat_0 14 rfl rfl)
theorem dX0_flat_15 : decode cX0_flat 15 = .ok (.aload_n 0, 1) := dk_42 (dk_at dksX0_flat_0 15 rfl rfl)
theorem dX0_flat_16 : decode cX0_flat 16 = .ok (.getfield 18, 3) := dk_180 0 18 (dk_at dksX0_flat_0 16 rfl rfl)
theorem dX0_flat_19 : decode cX0_flat 19 = .ok (.iload_n 1, 1) := dk_27 (dk_at dksX0_flat_0 19 rfl rfl)
theorem dX0_flat_20 : decode cX0_flat 20 = .ok (.aaload, 1) := dk_50 (dk_at dksX0_flat_0 20 rfl rfl)
theorem dX0_flat_21 : decode cX0_flat 21 = .ok (.getfield 96, 3) := dk_180 0 96 (dk_at dksX0_flat_0 21 rfl rfl)
theorem dX0_flat_24 : decode cX0_flat 24 = .ok (.astore_n 2, 1) := dk_77 (dk_at dksX0_flat_1 0 rfl rfl)
theorem dX0_flat_25 : decode cX0_flat 25 = .ok (.aload_n 0, 1) := dk_42 (dk_at dksX0_flat_1 1 rfl rfl)
theorem dX0_flat_26 : decode cX0_flat 26 = .ok (.getfield 18, 3) := dk_180 0 18 (dk_at dksX0_flat_1 2 rfl rfl)
theorem dX0_flat_29 : decode cX0_flat 29 = .ok (.iload_n 1, 1) := dk_27 (dk_at dksX0_flat_1 5 rfl rfl)
theorem dX0_flat_30 : decode cX0_flat 30 = .ok (.aaload, 1) := dk_50 (dk_at dksX0_flat_1 6 rfl rfl)
theorem dX0_flat_31 : decode cX0_flat 31 = .ok (.getfield 101, 3) := dk_180 0 101 (dk_at dksX0_flat_1 7 rfl rfl)
theorem dX0_flat_34 : decode cX0_flat 34 = .ok (.checkcast 58, 3) := dk_192 0 58 (dk_at dksX0_flat_1 10 rfl rfl)
theorem dX0_flat_37 : decode cX0_flat 37 = .ok (.astore_n 3, 1) := dk_78 (dk_at dksX0_flat_1 13 rfl rfl)
theorem dX0_flat_38 : decode cX0_flat 38 = .ok (.aload_n 3, 1) := dk_45 (dk_at dksX0_flat_1 14 rfl rfl)
theorem dX0_flat_39 : decode cX0_flat 39 = .ok (.astore 4, 2) := dk_58 4 (dk_at dksX0_flat_1 15 rfl rfl)
theorem dX0_flat_41 : decode cX0_flat 41 = .ok (.aload 4, 2) := dk_25 4 (dk_at dksX0_flat_1 17 rfl rfl)
theorem dX0_flat_43 : decode cX0_flat 43 = .ok (.arraylength, 1) := dk_190 (dk_at dksX0_flat_1 19 rfl rfl)
theorem dX0_flat_44 : decode cX0_flat 44 = .ok (.istore 5, 2) := dk_54 5 (dk_at dksX0_flat_1 20 rfl rfl)
theorem dX0_flat_46 : decode cX0_flat 46 = .ok (.iconst 0, 1) := dk_3 (dk_at dksX0_flat_1 22 rfl rfl)
theorem dX0_flat_47 : decode cX0_flat 47 = .ok (.istore 6, 2) := dk_54 6 (dk_at dksX0_flat_2 0 rfl rfl)
theorem dX0_flat_49 : decode cX0_flat 49 = .ok (.iload 6, 2) := dk_21 6 (dk_at dksX0_flat_2 2 rfl rfl)
theorem dX0_flat_51 : decode cX0_flat 51 = .ok (.iload 5, 2) := dk_21 5 (dk_at dksX0_flat_2 4 rfl rfl)
theorem dX0_flat_53 : decode cX0_flat 53 = .ok (.if_icmp .ge 36, 3) := dk_162 0 36 (dk_at dksX0_flat_2 6 rfl rfl)
theorem dX0_flat_56 : decode cX0_flat 56 = .ok (.aload 4, 2) := dk_25 4 (dk_at dksX0_flat_2 9 rfl rfl)
theorem dX0_flat_58 : decode cX0_flat 58 = .ok (.iload 6, 2) := dk_21 6 (dk_at dksX0_flat_2 11 rfl rfl)
theorem dX0_flat_60 : decode cX0_flat 60 = .ok (.aaload, 1) := dk_50 (dk_at dksX0_flat_2 13 rfl rfl)
theorem dX0_flat_61 : decode cX0_flat 61 = .ok (.astore 7, 2) := dk_58 7 (dk_at dksX0_flat_2 14 rfl rfl)
theorem dX0_flat_63 : decode cX0_flat 63 = .ok (.aload 7, 2) := dk_25 7 (dk_at dksX0_flat_2 16 rfl rfl)
theorem dX0_flat_65 : decode cX0_flat 65 = .ok (.arraylength, 1) := dk_190 (dk_at dksX0_flat_2 18 rfl rfl)
theorem dX0_flat_66 : decode cX0_flat 66 = .ok (.i2l, 1) := dk_133 (dk_at dksX0_flat_2 19 rfl rfl)
theorem dX0_flat_67 : decode cX0_flat 67 = .ok (.aload_n 2, 1) := dk_44 (dk_at dksX0_flat_2 20 rfl rfl)
theorem dX0_flat_68 : decode cX0_flat 68 = .ok (.iconst 1, 1) := dk_4 (dk_at dksX0_flat_2 21 rfl rfl)
theorem dX0_flat_69 : decode cX0_flat 69 = .ok (.invokevirtual 124, 3) := dk_182 0 124 (dk_at dksX0_flat_3 0 rfl rfl)
theorem dX0_flat_72 : decode cX0_flat 72 = .ok (.lcmp, 1) := dk_148 (dk_at dksX0_flat_3 3 rfl rfl)
theorem dX0_flat_73 : decode cX0_flat 73 = .ok (.ifCond .eq 10, 3) := dk_153 0 10 (dk_at dksX0_flat_3 4 rfl rfl)
theorem dX0_flat_76 : decode cX0_flat 76 = .ok (.aload_n 0, 1) := dk_42 (dk_at dksX0_flat_3 7 rfl rfl)
theorem dX0_flat_77 : decode cX0_flat 77 = .ok (.bipush 11, 2) := dk_16 11 (dk_at dksX0_flat_3 8 rfl rfl)
theorem dX0_flat_79 : decode cX0_flat 79 = .ok (.invokevirtual 47, 3) := dk_182 0 47 (dk_at dksX0_flat_3 10 rfl rfl)
theorem dX0_flat_82 : decode cX0_flat 82 = .ok (.ireturn, 1) := dk_172 (dk_at dksX0_flat_3 13 rfl rfl)
theorem dX0_flat_83 : decode cX0_flat 83 = .ok (.iinc 6 1, 3) := dk_132 6 1 (dk_at dksX0_flat_3 14 rfl rfl)
theorem dX0_flat_86 : decode cX0_flat 86 = .ok (.goto (-37), 3) := dk_167 255 219 (dk_at dksX0_flat_3 17 rfl rfl)
theorem dX0_flat_89 : decode cX0_flat 89 = .ok (.aload_n 0, 1) := dk_42 (dk_at dksX0_flat_3 20 rfl rfl)
theorem dX0_flat_90 : decode cX0_flat 90 = .ok (.getfield 51, 3) := dk_180 0 51 (dk_at dksX0_flat_3 21 rfl rfl)
theorem dX0_flat_93 : decode cX0_flat 93 = .ok (.bipush 24, 2) := dk_16 24 (dk_at dksX0_flat_4 0 rfl rfl)
theorem dX0_flat_95 : decode cX0_flat 95 = .ok (.if_icmp .ne 10, 3) := dk_160 0 10 (dk_at dksX0_flat_4 2 rfl rfl)
theorem dX0_flat_98 : decode cX0_flat 98 = .ok (.aload_n 0, 1) := dk_42 (dk_at dksX0_flat_4 5 rfl rfl)
theorem dX0_flat_99 : decode cX0_flat 99 = .ok (.bipush 8, 2) := dk_16 8 (dk_at dksX0_flat_4 6 rfl rfl)
theorem dX0_flat_101 : decode cX0_flat 101 = .ok (.invokevirtual 47, 3) := dk_182 0 47 (dk_at dksX0_flat_4 8 rfl rfl)
theorem dX0_flat_104 : decode cX0_flat 104 = .ok (.ireturn, 1) := dk_172 (dk_at dksX0_flat_4 11 rfl rfl)
theorem dX0_flat_105 : decode cX0_flat 105 = .ok (.aload_n 2, 1) := dk_44 (dk_at dksX0_flat_4 12 rfl rfl)
theorem dX0_flat_106 : decode cX0_flat 106 = .ok (.invokevirtual 120, 3) := dk_182 0 120 (dk_at dksX0_flat_4 13 rfl rfl)
theorem dX0_flat_109 : decode cX0_flat 109 = .ok (.newarray .int, 2) := dk_188_10 (dk_at dksX0_flat_4 16 rfl rfl)
theorem dX0_flat_111 : decode cX0_flat 111 = .ok (.astore 4, 2) := dk_58 4 (dk_at dksX0_flat_4 18 rfl rfl)
theorem dX0_flat_113 : decode cX0_flat 113 = .ok (.iconst 0, 1) := dk_3 (dk_at dksX0_flat_4 20 rfl rfl)
theorem dX0_flat_114 : decode cX0_flat 114 = .ok (.istore 5, 2) := dk_54 5 (dk_at dksX0_flat_4 21 rfl rfl)
theorem dX0_flat_116 : decode cX0_flat 116 = .ok (.aload_n 3, 1) := dk_45 (dk_at dksX0_flat_4 23 rfl rfl)
theorem dX0_flat_117 : decode cX0_flat 117 = .ok (.astore 6, 2) := dk_58 6 (dk_at dksX0_flat_5 0 rfl rfl)
theorem dX0_flat_119 : decode cX0_flat 119 = .ok (.aload 6, 2) := dk_25 6 (dk_at dksX0_flat_5 2 rfl rfl)
theorem dX0_flat_121 : decode cX0_flat 121 = .ok (.arraylength, 1) := dk_190 (dk_at dksX0_flat_5 4 rfl rfl)
theorem dX0_flat_122 : decode cX0_flat 122 = .ok (.istore 7, 2) := dk_54 7 (dk_at dksX0_flat_5 5 rfl rfl)
theorem dX0_flat_124 : decode cX0_flat 124 = .ok (.iconst 0, 1) := dk_3 (dk_at dksX0_flat_5 7 rfl rfl)
theorem dX0_flat_125 : decode cX0_flat 125 = .ok (.istore 8, 2) := dk_54 8 (dk_at dksX0_flat_5 8 rfl rfl)
theorem dX0_flat_127 : decode cX0_flat 127 = .ok (.iload 8, 2) := dk_21 8 (dk_at dksX0_flat_5 10 rfl rfl)
theorem dX0_flat_129 : decode cX0_flat 129 = .ok (.iload 7, 2) := dk_21 7 (dk_at dksX0_flat_5 12 rfl rfl)
theorem dX0_flat_131 : decode cX0_flat 131 = .ok (.if_icmp .ge 37, 3) := dk_162 0 37 (dk_at dksX0_flat_5 14 rfl rfl)
theorem dX0_flat_134 : decode cX0_flat 134 = .ok (.aload 6, 2) := dk_25 6 (dk_at dksX0_flat_5 17 rfl rfl)
theorem dX0_flat_136 : decode cX0_flat 136 = .ok (.iload 8, 2) := dk_21 8 (dk_at dksX0_flat_5 19 rfl rfl)
theorem dX0_flat_138 : decode cX0_flat 138 = .ok (.aaload, 1) := dk_50 (dk_at dksX0_flat_5 21 rfl rfl)
theorem dX0_flat_139 : decode cX0_flat 139 = .ok (.astore 9, 2) := dk_58 9 (dk_at dksX0_flat_5 22 rfl rfl)
theorem dX0_flat_141 : decode cX0_flat 141 = .ok (.aload 9, 2) := dk_25 9 (dk_at dksX0_flat_6 0 rfl rfl)
theorem dX0_flat_143 : decode cX0_flat 143 = .ok (.iconst 0, 1) := dk_3 (dk_at dksX0_flat_6 2 rfl rfl)
theorem dX0_flat_144 : decode cX0_flat 144 = .ok (.aload 4, 2) := dk_25 4 (dk_at dksX0_flat_6 3 rfl rfl)
theorem dX0_flat_146 : decode cX0_flat 146 = .ok (.iload 5, 2) := dk_21 5 (dk_at dksX0_flat_6 5 rfl rfl)
theorem dX0_flat_148 : decode cX0_flat 148 = .ok (.aload 9, 2) := dk_25 9 (dk_at dksX0_flat_6 7 rfl rfl)
theorem dX0_flat_150 : decode cX0_flat 150 = .ok (.arraylength, 1) := dk_190 (dk_at dksX0_flat_6 9 rfl rfl)
theorem dX0_flat_151 : decode cX0_flat 151 = .ok (.invokestatic 150, 3) := dk_184 0 150 (dk_at dksX0_flat_6 10 rfl rfl)
theorem dX0_flat_154 : decode cX0_flat 154 = .ok (.iload 5, 2) := dk_21 5 (dk_at dksX0_flat_6 13 rfl rfl)
theorem dX0_flat_156 : decode cX0_flat 156 = .ok (.aload 9, 2) := dk_25 9 (dk_at dksX0_flat_6 15 rfl rfl)
theorem dX0_flat_158 : decode cX0_flat 158 = .ok (.arraylength, 1) := dk_190 (dk_at dksX0_flat_6 17 rfl rfl)
theorem dX0_flat_159 : decode cX0_flat 159 = .ok (.iadd, 1) := dk_96 (dk_at dksX0_flat_6 18 rfl rfl)
theorem dX0_flat_160 : decode cX0_flat 160 = .ok (.istore 5, 2) := dk_54 5 (dk_at dksX0_flat_6 19 rfl rfl)
theorem dX0_flat_162 : decode cX0_flat 162 = .ok (.iinc 8 1, 3) := dk_132 8 1 (dk_at dksX0_flat_6 21 rfl rfl)
theorem dX0_flat_165 : decode cX0_flat 165 = .ok (.goto (-38), 3) := dk_167 255 218 (dk_at dksX0_flat_7 0 rfl rfl)
theorem dX0_flat_168 : decode cX0_flat 168 = .ok (.aload_n 0, 1) := dk_42 (dk_at dksX0_flat_7 3 rfl rfl)
theorem dX0_flat_169 : decode cX0_flat 169 = .ok (.aload_n 2, 1) := dk_44 (dk_at dksX0_flat_7 4 rfl rfl)
theorem dX0_flat_170 : decode cX0_flat 170 = .ok (.aload 4, 2) := dk_25 4 (dk_at dksX0_flat_7 5 rfl rfl)
theorem dX0_flat_172 : decode cX0_flat 172 = .ok (.invokevirtual 137, 3) := dk_182 0 137 (dk_at dksX0_flat_7 7 rfl rfl)
theorem dX0_flat_175 : decode cX0_flat 175 = .ok (.ireturn, 1) := dk_172 (dk_at dksX0_flat_7 10 rfl rfl)
theorem dX0_flat_176 : decode cX0_flat 176 = .ok (.astore_n 3, 1) := dk_78 (dk_at dksX0_flat_7 11 rfl rfl)
theorem dX0_flat_177 : decode cX0_flat 177 = .ok (.aload_n 0, 1) := dk_42 (dk_at dksX0_flat_7 12 rfl rfl)
theorem dX0_flat_178 : decode cX0_flat 178 = .ok (.iconst 2, 1) := dk_5 (dk_at dksX0_flat_7 13 rfl rfl)
theorem dX0_flat_179 : decode cX0_flat 179 = .ok (.invokevirtual 47, 3) := dk_182 0 47 (dk_at dksX0_flat_7 14 rfl rfl)
theorem dX0_flat_182 : decode cX0_flat 182 = .ok (.ireturn, 1) := dk_172 (dk_at dksX0_flat_7 17 rfl rfl)
theorem dX0_flat_183 : decode cX0_flat 183 = .ok (.astore_n 3, 1) := dk_78 (dk_at dksX0_flat_7 18 rfl rfl)
theorem dX0_flat_184 : decode cX0_flat 184 = .ok (.aload_n 0, 1) := dk_42 (dk_at dksX0_flat_7 19 rfl rfl)
theorem dX0_flat_185 : decode cX0_flat 185 = .ok (.iconst 1, 1) := dk_4 (dk_at dksX0_flat_7 20 rfl rfl)
theorem dX0_flat_186 : decode cX0_flat 186 = .ok (.invokevirtual 47, 3) := dk_182 0 47 (dk_at dksX0_flat_7 21 rfl rfl)
theorem dX0_flat_189 : decode cX0_flat 189 = .ok (.ireturn, 1) := dk_172 (dk_at dksX0_flat_8 0 rfl rfl)
abbrev cX0_ragged : ByteArray := prog_1_method_27_code
def yX0_ragged : MethodName := ⟨RX0, "ragged", "(III)I"⟩
def dkwX0_ragged_4 : List UInt8 := [182, 0, 47, 172, 58, 5, 42, 7, 182, 0, 47, 172]
abbrev dktX0_ragged_4 : List UInt8 := dkwX0_ragged_4 ++ []
def dkwX0_ragged_3 : List UInt8 := [25, 4, 180, 0, 105, 3, 46, 100, 29, 188, 10, 83, 42, 4, 182, 0, 114, 172, 58, 5, 42, 5]
abbrev dktX0_ragged_3 : List UInt8 := dkwX0_ragged_3 ++ dktX0_ragged_4
def dkwX0_ragged_2 : List UInt8 := [154, 0, 9, 42, 3, 182, 0, 174, 172, 29, 16, 100, 164, 0, 9, 42, 8, 182, 0, 47, 172, 25, 5, 28]
abbrev dktX0_ragged_2 : List UInt8 := dkwX0_ragged_2 ++ dktX0_ragged_3
def dkwX0_ragged_1 : List UInt8 := [58, 4, 42, 180, 0, 18, 27, 50, 180, 0, 101, 192, 0, 58, 58, 5, 25, 4, 3, 28, 182, 0, 180]
abbrev dktX0_ragged_1 : List UInt8 := dkwX0_ragged_1 ++ dktX0_ragged_2
def dkwX0_ragged_0 : List UInt8 := [42, 27, 182, 0, 143, 154, 0, 10, 42, 16, 7, 182, 0, 47, 172, 42, 180, 0, 18, 27, 50, 180, 0, 96]
abbrev dktX0_ragged_0 : List UInt8 := dkwX0_ragged_0 ++ dktX0_ragged_1
theorem dksX0_ragged_0 : cX0_ragged.data.toList.drop 0 = dktX0_ragged_0 := by decide +kernel
theorem dksX0_ragged_1 : cX0_ragged.data.toList.drop 24 = dktX0_ragged_1 := dk_seg dksX0_ragged_0 24 rfl rfl
theorem dksX0_ragged_2 : cX0_ragged.data.toList.drop 47 = dktX0_ragged_2 := dk_seg dksX0_ragged_1 23 rfl rfl
theorem dksX0_ragged_3 : cX0_ragged.data.toList.drop 71 = dktX0_ragged_3 := dk_seg dksX0_ragged_2 24 rfl rfl
theorem dksX0_ragged_4 : cX0_ragged.data.toList.drop 93 = dktX0_ragged_4 := dk_seg dksX0_ragged_3 22 rfl rfl
theorem dX0_ragged_0 : decode cX0_ragged 0 = .ok (.aload_n 0, 1) := dk_42 (dk_at dksX0_ragged_0 0 rfl rfl)
theorem dX0_ragged_1 : decode cX0_ragged 1 = .ok (.iload_n 1, 1) := dk_27 (dk_at dksX0_ragged_0 1 rfl rfl)
theorem dX0_ragged_2 : decode cX0_ragged 2 = .ok (.invokevirtual 143, 3) := dk_182 0 143 (dk_at dksX0_ragged_0 2 rfl rfl)
theorem dX0_ragged_5 : decode cX0_ragged 5 = .ok (.ifCond .ne 10, 3) := dk_154 0 10 (dk_at dksX0_ragged_0 5 rfl rfl)
theorem dX0_ragged_8 : decode cX0_ragged 8 = .ok (.aload_n 0, 1) := dk_42 (dk_at dksX0_ragged_0 8 rfl rfl)
theorem dX0_ragged_9 : decode cX0_ragged 9 = .ok (.bipush 7, 2) := dk_16 7 (dk_at dksX0_ragged_0 9 rfl rfl)
theorem dX0_ragged_11 : decode cX0_ragged 11 = .ok (.invokevirtual 47, 3) := dk_182 0 47 (dk_at dksX0_ragged_0 11 rfl rfl)
theorem dX0_ragged_14 : decode cX0_ragged 14 = .ok (.ireturn, 1) := dk_172 (dk_at dksX0_ragged_0 14 rfl rfl)
theorem dX0_ragged_15 : decode cX0_ragged 15 = .ok (.aload_n 0, 1) := dk_42 (dk_at dksX0_ragged_0 15 rfl rfl)
theorem dX0_ragged_16 : decode cX0_ragged 16 = .ok (.getfield 18, 3) := dk_180 0 18 (dk_at dksX0_ragged_0 16 rfl rfl)
theorem dX0_ragged_19 : decode cX0_ragged 19 = .ok (.iload_n 1, 1) := dk_27 (dk_at dksX0_ragged_0 19 rfl rfl)
theorem dX0_ragged_20 : decode cX0_ragged 20 = .ok (.aaload, 1) := dk_50 (dk_at dksX0_ragged_0 20 rfl rfl)
theorem dX0_ragged_21 : decode cX0_ragged 21 = .ok (.getfield 96, 3) := dk_180 0 96 (dk_at dksX0_ragged_0 21 rfl rfl)
theorem dX0_ragged_24 : decode cX0_ragged 24 = .ok (.astore 4, 2) := dk_58 4 (dk_at dksX0_ragged_1 0 rfl rfl)
theorem dX0_ragged_26 : decode cX0_ragged 26 = .ok (.aload_n 0, 1) := dk_42 (dk_at dksX0_ragged_1 2 rfl rfl)
theorem dX0_ragged_27 : decode cX0_ragged 27 = .ok (.getfield 18, 3) := dk_180 0 18 (dk_at dksX0_ragged_1 3 rfl rfl)
theorem dX0_ragged_30 : decode cX0_ragged 30 = .ok (.iload_n 1, 1) := dk_27 (dk_at dksX0_ragged_1 6 rfl rfl)
theorem dX0_ragged_31 : decode cX0_ragged 31 = .ok (.aaload, 1) := dk_50 (dk_at dksX0_ragged_1 7 rfl rfl)
theorem dX0_ragged_32 : decode cX0_ragged 32 = .ok (.getfield 101, 3) := dk_180 0 101 (dk_at dksX0_ragged_1 8 rfl rfl)
theorem dX0_ragged_35 : decode cX0_ragged 35 = .ok (.checkcast 58, 3) := dk_192 0 58 (dk_at dksX0_ragged_1 11 rfl rfl)
theorem dX0_ragged_38 : decode cX0_ragged 38 = .ok (.astore 5, 2) := dk_58 5 (dk_at dksX0_ragged_1 14 rfl rfl)
theorem dX0_ragged_40 : decode cX0_ragged 40 = .ok (.aload 4, 2) := dk_25 4 (dk_at dksX0_ragged_1 16 rfl rfl)
theorem dX0_ragged_42 : decode cX0_ragged 42 = .ok (.iconst 0, 1) := dk_3 (dk_at dksX0_ragged_1 18 rfl rfl)
theorem dX0_ragged_43 : decode cX0_ragged 43 = .ok (.iload_n 2, 1) := dk_28 (dk_at dksX0_ragged_1 19 rfl rfl)
theorem dX0_ragged_44 : decode cX0_ragged 44 = .ok (.invokevirtual 180, 3) := dk_182 0 180 (dk_at dksX0_ragged_1 20 rfl rfl)
theorem dX0_ragged_47 : decode cX0_ragged 47 = .ok (.ifCond .ne 9, 3) := dk_154 0 9 (dk_at dksX0_ragged_2 0 rfl rfl)
theorem dX0_ragged_50 : decode cX0_ragged 50 = .ok (.aload_n 0, 1) := dk_42 (dk_at dksX0_ragged_2 3 rfl rfl)
theorem dX0_ragged_51 : decode cX0_ragged 51 = .ok (.iconst 0, 1) := dk_3 (dk_at dksX0_ragged_2 4 rfl rfl)
theorem dX0_ragged_52 : decode cX0_ragged 52 = .ok (.invokevirtual 174, 3) := dk_182 0 174 (dk_at dksX0_ragged_2 5 rfl rfl)
theorem dX0_ragged_55 : decode cX0_ragged 55 = .ok (.ireturn, 1) := dk_172 (dk_at dksX0_ragged_2 8 rfl rfl)
theorem dX0_ragged_56 : decode cX0_ragged 56 = .ok (.iload_n 3, 1) := dk_29 (dk_at dksX0_ragged_2 9 rfl rfl)
theorem dX0_ragged_57 : decode cX0_ragged 57 = .ok (.bipush 100, 2) := dk_16 100 (dk_at dksX0_ragged_2 10 rfl rfl)
theorem dX0_ragged_59 : decode cX0_ragged 59 = .ok (.if_icmp .le 9, 3) := dk_164 0 9 (dk_at dksX0_ragged_2 12 rfl rfl)
theorem dX0_ragged_62 : decode cX0_ragged 62 = .ok (.aload_n 0, 1) := dk_42 (dk_at dksX0_ragged_2 15 rfl rfl)
theorem dX0_ragged_63 : decode cX0_ragged 63 = .ok (.iconst 5, 1) := dk_8 (dk_at dksX0_ragged_2 16 rfl rfl)
theorem dX0_ragged_64 : decode cX0_ragged 64 = .ok (.invokevirtual 47, 3) := dk_182 0 47 (dk_at dksX0_ragged_2 17 rfl rfl)
theorem dX0_ragged_67 : decode cX0_ragged 67 = .ok (.ireturn, 1) := dk_172 (dk_at dksX0_ragged_2 20 rfl rfl)
theorem dX0_ragged_68 : decode cX0_ragged 68 = .ok (.aload 5, 2) := dk_25 5 (dk_at dksX0_ragged_2 21 rfl rfl)
theorem dX0_ragged_70 : decode cX0_ragged 70 = .ok (.iload_n 2, 1) := dk_28 (dk_at dksX0_ragged_2 23 rfl rfl)
theorem dX0_ragged_71 : decode cX0_ragged 71 = .ok (.aload 4, 2) := dk_25 4 (dk_at dksX0_ragged_3 0 rfl rfl)
theorem dX0_ragged_73 : decode cX0_ragged 73 = .ok (.getfield 105, 3) := dk_180 0 105 (dk_at dksX0_ragged_3 2 rfl rfl)
theorem dX0_ragged_76 : decode cX0_ragged 76 = .ok (.iconst 0, 1) := dk_3 (dk_at dksX0_ragged_3 5 rfl rfl)
theorem dX0_ragged_77 : decode cX0_ragged 77 = .ok (.iaload, 1) := dk_46 (dk_at dksX0_ragged_3 6 rfl rfl)
theorem dX0_ragged_78 : decode cX0_ragged 78 = .ok (.isub, 1) := dk_100 (dk_at dksX0_ragged_3 7 rfl rfl)
theorem dX0_ragged_79 : decode cX0_ragged 79 = .ok (.iload_n 3, 1) := dk_29 (dk_at dksX0_ragged_3 8 rfl rfl)
theorem dX0_ragged_80 : decode cX0_ragged 80 = .ok (.newarray .int, 2) := dk_188_10 (dk_at dksX0_ragged_3 9 rfl rfl)
theorem dX0_ragged_82 : decode cX0_ragged 82 = .ok (.aastore, 1) := dk_83 (dk_at dksX0_ragged_3 11 rfl rfl)
theorem dX0_ragged_83 : decode cX0_ragged 83 = .ok (.aload_n 0, 1) := dk_42 (dk_at dksX0_ragged_3 12 rfl rfl)
theorem dX0_ragged_84 : decode cX0_ragged 84 = .ok (.iconst 1, 1) := dk_4 (dk_at dksX0_ragged_3 13 rfl rfl)
theorem dX0_ragged_85 : decode cX0_ragged 85 = .ok (.invokevirtual 114, 3) := dk_182 0 114 (dk_at dksX0_ragged_3 14 rfl rfl)
theorem dX0_ragged_88 : decode cX0_ragged 88 = .ok (.ireturn, 1) := dk_172 (dk_at dksX0_ragged_3 17 rfl rfl)
theorem dX0_ragged_89 : decode cX0_ragged 89 = .ok (.astore 5, 2) := dk_58 5 (dk_at dksX0_ragged_3 18 rfl rfl)
theorem dX0_ragged_91 : decode cX0_ragged 91 = .ok (.aload_n 0, 1) := dk_42 (dk_at dksX0_ragged_3 20 rfl rfl)
theorem dX0_ragged_92 : decode cX0_ragged 92 = .ok (.iconst 2, 1) := dk_5 (dk_at dksX0_ragged_3 21 rfl rfl)
theorem dX0_ragged_93 : decode cX0_ragged 93 = .ok (.invokevirtual 47, 3) := dk_182 0 47 (dk_at dksX0_ragged_4 0 rfl rfl)
theorem dX0_ragged_96 : decode cX0_ragged 96 = .ok (.ireturn, 1) := dk_172 (dk_at dksX0_ragged_4 3 rfl rfl)
theorem dX0_ragged_97 : decode cX0_ragged 97 = .ok (.astore 5, 2) := dk_58 5 (dk_at dksX0_ragged_4 4 rfl rfl)
theorem dX0_ragged_99 : decode cX0_ragged 99 = .ok (.aload_n 0, 1) := dk_42 (dk_at dksX0_ragged_4 6 rfl rfl)
theorem dX0_ragged_100 : decode cX0_ragged 100 = .ok (.iconst 4, 1) := dk_7 (dk_at dksX0_ragged_4 7 rfl rfl)
theorem dX0_ragged_101 : decode cX0_ragged 101 = .ok (.invokevirtual 47, 3) := dk_182 0 47 (dk_at dksX0_ragged_4 8 rfl rfl)
theorem dX0_ragged_104 : decode cX0_ragged 104 = .ok (.ireturn, 1) := dk_172 (dk_at dksX0_ragged_4 11 rfl rfl)
abbrev cX0_without : ByteArray := prog_1_method_28_code
def yX0_without : MethodName := ⟨RX0, "without", "(II)I"⟩
def dkwX0_without_3 : List UInt8 := [58, 4, 42, 5, 182, 0, 47, 172]
abbrev dktX0_without_3 : List UInt8 := dkwX0_without_3 ++ []
def dkwX0_without_2 : List UInt8 := [42, 3, 182, 0, 174, 172, 25, 4, 28, 45, 180, 0, 105, 3, 46, 100, 1, 83, 42, 4, 182, 0, 114, 172]
abbrev dktX0_without_2 : List UInt8 := dkwX0_without_2 ++ dktX0_without_3
def dkwX0_without_1 : List UInt8 := [78, 42, 180, 0, 18, 27, 50, 180, 0, 101, 192, 0, 58, 58, 4, 45, 3, 28, 182, 0, 180, 154, 0, 9]
abbrev dktX0_without_1 : List UInt8 := dkwX0_without_1 ++ dktX0_without_2
def dkwX0_without_0 : List UInt8 := [42, 27, 182, 0, 143, 154, 0, 10, 42, 16, 7, 182, 0, 47, 172, 42, 180, 0, 18, 27, 50, 180, 0, 96]
abbrev dktX0_without_0 : List UInt8 := dkwX0_without_0 ++ dktX0_without_1
theorem dksX0_without_0 : cX0_without.data.toList.drop 0 = dktX0_without_0 := by decide +kernel
theorem dksX0_without_1 : cX0_without.data.toList.drop 24 = dktX0_without_1 := dk_seg dksX0_without_0 24 rfl rfl
theorem dksX0_without_2 : cX0_without.data.toList.drop 48 = dktX0_without_2 := dk_seg dksX0_without_1 24 rfl rfl
theorem dksX0_without_3 : cX0_without.data.toList.drop 72 = dktX0_without_3 := dk_seg dksX0_without_2 24 rfl rfl
theorem dX0_without_0 : decode cX0_without 0 = .ok (.aload_n 0, 1) := dk_42 (dk_at dksX0_without_0 0 rfl rfl)
theorem dX0_without_1 : decode cX0_without 1 = .ok (.iload_n 1, 1) := dk_27 (dk_at dksX0_without_0 1 rfl rfl)
theorem dX0_without_2 : decode cX0_without 2 = .ok (.invokevirtual 143, 3) := dk_182 0 143 (dk_at dksX0_without_0 2 rfl rfl)
theorem dX0_without_5 : decode cX0_without 5 = .ok (.ifCond .ne 10, 3) := dk_154 0 10 (dk_at dksX0_without_0 5 rfl rfl)
theorem dX0_without_8 : decode cX0_without 8 = .ok (.aload_n 0, 1) := dk_42 (dk_at dksX0_without_0 8 rfl rfl)
theorem dX0_without_9 : decode cX0_without 9 = .ok (.bipush 7, 2) := dk_16 7 (dk_at dksX0_without_0 9 rfl rfl)
theorem dX0_without_11 : decode cX0_without 11 = .ok (.invokevirtual 47, 3) := dk_182 0 47 (dk_at dksX0_without_0 11 rfl rfl)
theorem dX0_without_14 : decode cX0_without 14 = .ok (.ireturn, 1) := dk_172 (dk_at dksX0_without_0 14 rfl rfl)
theorem dX0_without_15 : decode cX0_without 15 = .ok (.aload_n 0, 1) := dk_42 (dk_at dksX0_without_0 15 rfl rfl)
theorem dX0_without_16 : decode cX0_without 16 = .ok (.getfield 18, 3) := dk_180 0 18 (dk_at dksX0_without_0 16 rfl rfl)
theorem dX0_without_19 : decode cX0_without 19 = .ok (.iload_n 1, 1) := dk_27 (dk_at dksX0_without_0 19 rfl rfl)
theorem dX0_without_20 : decode cX0_without 20 = .ok (.aaload, 1) := dk_50 (dk_at dksX0_without_0 20 rfl rfl)
theorem dX0_without_21 : decode cX0_without 21 = .ok (.getfield 96, 3) := dk_180 0 96 (dk_at dksX0_without_0 21 rfl rfl)
theorem dX0_without_24 : decode cX0_without 24 = .ok (.astore_n 3, 1) := dk_78 (dk_at dksX0_without_1 0 rfl rfl)
theorem dX0_without_25 : decode cX0_without 25 = .ok (.aload_n 0, 1) := dk_42 (dk_at dksX0_without_1 1 rfl rfl)
theorem dX0_without_26 : decode cX0_without 26 = .ok (.getfield 18, 3) := dk_180 0 18 (dk_at dksX0_without_1 2 rfl rfl)
theorem dX0_without_29 : decode cX0_without 29 = .ok (.iload_n 1, 1) := dk_27 (dk_at dksX0_without_1 5 rfl rfl)
theorem dX0_without_30 : decode cX0_without 30 = .ok (.aaload, 1) := dk_50 (dk_at dksX0_without_1 6 rfl rfl)
theorem dX0_without_31 : decode cX0_without 31 = .ok (.getfield 101, 3) := dk_180 0 101 (dk_at dksX0_without_1 7 rfl rfl)
theorem dX0_without_34 : decode cX0_without 34 = .ok (.checkcast 58, 3) := dk_192 0 58 (dk_at dksX0_without_1 10 rfl rfl)
theorem dX0_without_37 : decode cX0_without 37 = .ok (.astore 4, 2) := dk_58 4 (dk_at dksX0_without_1 13 rfl rfl)
theorem dX0_without_39 : decode cX0_without 39 = .ok (.aload_n 3, 1) := dk_45 (dk_at dksX0_without_1 15 rfl rfl)
theorem dX0_without_40 : decode cX0_without 40 = .ok (.iconst 0, 1) := dk_3 (dk_at dksX0_without_1 16 rfl rfl)
theorem dX0_without_41 : decode cX0_without 41 = .ok (.iload_n 2, 1) := dk_28 (dk_at dksX0_without_1 17 rfl rfl)
theorem dX0_without_42 : decode cX0_without 42 = .ok (.invokevirtual 180, 3) := dk_182 0 180 (dk_at dksX0_without_1 18 rfl rfl)
theorem dX0_without_45 : decode cX0_without 45 = .ok (.ifCond .ne 9, 3) := dk_154 0 9 (dk_at dksX0_without_1 21 rfl rfl)
theorem dX0_without_48 : decode cX0_without 48 = .ok (.aload_n 0, 1) := dk_42 (dk_at dksX0_without_2 0 rfl rfl)
theorem dX0_without_49 : decode cX0_without 49 = .ok (.iconst 0, 1) := dk_3 (dk_at dksX0_without_2 1 rfl rfl)
theorem dX0_without_50 : decode cX0_without 50 = .ok (.invokevirtual 174, 3) := dk_182 0 174 (dk_at dksX0_without_2 2 rfl rfl)
theorem dX0_without_53 : decode cX0_without 53 = .ok (.ireturn, 1) := dk_172 (dk_at dksX0_without_2 5 rfl rfl)
theorem dX0_without_54 : decode cX0_without 54 = .ok (.aload 4, 2) := dk_25 4 (dk_at dksX0_without_2 6 rfl rfl)
theorem dX0_without_56 : decode cX0_without 56 = .ok (.iload_n 2, 1) := dk_28 (dk_at dksX0_without_2 8 rfl rfl)
theorem dX0_without_57 : decode cX0_without 57 = .ok (.aload_n 3, 1) := dk_45 (dk_at dksX0_without_2 9 rfl rfl)
theorem dX0_without_58 : decode cX0_without 58 = .ok (.getfield 105, 3) := dk_180 0 105 (dk_at dksX0_without_2 10 rfl rfl)
theorem dX0_without_61 : decode cX0_without 61 = .ok (.iconst 0, 1) := dk_3 (dk_at dksX0_without_2 13 rfl rfl)
theorem dX0_without_62 : decode cX0_without 62 = .ok (.iaload, 1) := dk_46 (dk_at dksX0_without_2 14 rfl rfl)
theorem dX0_without_63 : decode cX0_without 63 = .ok (.isub, 1) := dk_100 (dk_at dksX0_without_2 15 rfl rfl)
theorem dX0_without_64 : decode cX0_without 64 = .ok (.aconst_null, 1) := dk_1 (dk_at dksX0_without_2 16 rfl rfl)
theorem dX0_without_65 : decode cX0_without 65 = .ok (.aastore, 1) := dk_83 (dk_at dksX0_without_2 17 rfl rfl)
theorem dX0_without_66 : decode cX0_without 66 = .ok (.aload_n 0, 1) := dk_42 (dk_at dksX0_without_2 18 rfl rfl)
theorem dX0_without_67 : decode cX0_without 67 = .ok (.iconst 1, 1) := dk_4 (dk_at dksX0_without_2 19 rfl rfl)
theorem dX0_without_68 : decode cX0_without 68 = .ok (.invokevirtual 114, 3) := dk_182 0 114 (dk_at dksX0_without_2 20 rfl rfl)
theorem dX0_without_71 : decode cX0_without 71 = .ok (.ireturn, 1) := dk_172 (dk_at dksX0_without_2 23 rfl rfl)
theorem dX0_without_72 : decode cX0_without 72 = .ok (.astore 4, 2) := dk_58 4 (dk_at dksX0_without_3 0 rfl rfl)
theorem dX0_without_74 : decode cX0_without 74 = .ok (.aload_n 0, 1) := dk_42 (dk_at dksX0_without_3 2 rfl rfl)
theorem dX0_without_75 : decode cX0_without 75 = .ok (.iconst 2, 1) := dk_5 (dk_at dksX0_without_3 3 rfl rfl)
theorem dX0_without_76 : decode cX0_without 76 = .ok (.invokevirtual 47, 3) := dk_182 0 47 (dk_at dksX0_without_3 4 rfl rfl)
theorem dX0_without_79 : decode cX0_without 79 = .ok (.ireturn, 1) := dk_172 (dk_at dksX0_without_3 7 rfl rfl)
abbrev cX0_tie : ByteArray := prog_1_method_29_code
def yX0_tie : MethodName := ⟨RX0, "tie", "(IIII)I"⟩
def dkwX0_tie_6 : List UInt8 := [5, 182, 0, 47, 172]
abbrev dktX0_tie_6 : List UInt8 := dkwX0_tie_6 ++ []
def dkwX0_tie_5 : List UInt8 := [100, 25, 8, 21, 4, 25, 6, 180, 0, 105, 3, 46, 100, 50, 83, 42, 4, 182, 0, 114, 172, 58, 7, 42]
abbrev dktX0_tie_5 : List UInt8 := dkwX0_tie_5 ++ dktX0_tie_6
def dkwX0_tie_4 : List UInt8 := [21, 4, 182, 0, 180, 154, 0, 9, 42, 4, 182, 0, 174, 172, 25, 7, 28, 25, 5, 180, 0, 105, 3, 46]
abbrev dktX0_tie_4 : List UInt8 := dkwX0_tie_4 ++ dktX0_tie_5
def dkwX0_tie_3 : List UInt8 := [192, 0, 58, 58, 8, 25, 5, 3, 28, 182, 0, 180, 154, 0, 9, 42, 3, 182, 0, 174, 172, 25, 6, 3]
abbrev dktX0_tie_3 : List UInt8 := dkwX0_tie_3 ++ dktX0_tie_4
def dkwX0_tie_2 : List UInt8 := [180, 0, 18, 27, 50, 180, 0, 101, 192, 0, 58, 58, 7, 42, 180, 0, 18, 29, 50, 180, 0, 101]
abbrev dktX0_tie_2 : List UInt8 := dkwX0_tie_2 ++ dktX0_tie_3
def dkwX0_tie_1 : List UInt8 := [180, 0, 18, 27, 50, 180, 0, 96, 58, 5, 42, 180, 0, 18, 29, 50, 180, 0, 96, 58, 6, 42]
abbrev dktX0_tie_1 : List UInt8 := dkwX0_tie_1 ++ dktX0_tie_2
def dkwX0_tie_0 : List UInt8 := [42, 27, 182, 0, 143, 153, 0, 11, 42, 29, 182, 0, 143, 154, 0, 10, 42, 16, 7, 182, 0, 47, 172, 42]
abbrev dktX0_tie_0 : List UInt8 := dkwX0_tie_0 ++ dktX0_tie_1
theorem dksX0_tie_0 : cX0_tie.data.toList.drop 0 = dktX0_tie_0 := by decide +kernel
theorem dksX0_tie_1 : cX0_tie.data.toList.drop 24 = dktX0_tie_1 := dk_seg dksX0_tie_0 24 rfl rfl
theorem dksX0_tie_2 : cX0_tie.data.toList.drop 46 = dktX0_tie_2 := dk_seg dksX0_tie_1 22 rfl rfl
theorem dksX0_tie_3 : cX0_tie.data.toList.drop 68 = dktX0_tie_3 := dk_seg dksX0_tie_2 22 rfl rfl
theorem dksX0_tie_4 : cX0_tie.data.toList.drop 92 = dktX0_tie_4 := dk_seg dksX0_tie_3 24 rfl rfl
theorem dksX0_tie_5 : cX0_tie.data.toList.drop 116 = dktX0_tie_5 := dk_seg dksX0_tie_4 24 rfl rfl
theorem dksX0_tie_6 : cX0_tie.data.toList.drop 140 = dktX0_tie_6 := dk_seg dksX0_tie_5 24 rfl rfl
theorem dX0_tie_0 : decode cX0_tie 0 = .ok (.aload_n 0, 1) := dk_42 (dk_at dksX0_tie_0 0 rfl rfl)
theorem dX0_tie_1 : decode cX0_tie 1 = .ok (.iload_n 1, 1) := dk_27 (dk_at dksX0_tie_0 1 rfl rfl)
theorem dX0_tie_2 : decode cX0_tie 2 = .ok (.invokevirtual 143, 3) := dk_182 0 143 (dk_at dksX0_tie_0 2 rfl rfl)
theorem dX0_tie_5 : decode cX0_tie 5 = .ok (.ifCond .eq 11, 3) := dk_153 0 11 (dk_at dksX0_tie_0 5 rfl rfl)
theorem dX0_tie_8 : decode cX0_tie 8 = .ok (.aload_n 0, 1) := dk_42 (dk_at dksX0_tie_0 8 rfl rfl)
theorem dX0_tie_9 : decode cX0_tie 9 = .ok (.iload_n 3, 1) := dk_29 (dk_at dksX0_tie_0 9 rfl rfl)
theorem dX0_tie_10 : decode cX0_tie 10 = .ok (.invokevirtual 143, 3) := dk_182 0 143 (dk_at dksX0_tie_0 10 rfl rfl)
theorem dX0_tie_13 : decode cX0_tie 13 = .ok (.ifCond .ne 10, 3) := dk_154 0 10 (dk_at dksX0_tie_0 13 rfl rfl)
theorem dX0_tie_16 : decode cX0_tie 16 = .ok (.aload_n 0, 1) := dk_42 (dk_at dksX0_tie_0 16 rfl rfl)
theorem dX0_tie_17 : decode cX0_tie 17 = .ok (.bipush 7, 2) := dk_16 7 (dk_at dksX0_tie_0 17 rfl rfl)
theorem dX0_tie_19 : decode cX0_tie 19 = .ok (.invokevirtual 47, 3) := dk_182 0 47 (dk_at dksX0_tie_0 19 rfl rfl)
theorem dX0_tie_22 : decode cX0_tie 22 = .ok (.ireturn, 1) := dk_172 (dk_at dksX0_tie_0 22 rfl rfl)
theorem dX0_tie_23 : decode cX0_tie 23 = .ok (.aload_n 0, 1) := dk_42 (dk_at dksX0_tie_0 23 rfl rfl)
theorem dX0_tie_24 : decode cX0_tie 24 = .ok (.getfield 18, 3) := dk_180 0 18 (dk_at dksX0_tie_1 0 rfl rfl)
theorem dX0_tie_27 : decode cX0_tie 27 = .ok (.iload_n 1, 1) := dk_27 (dk_at dksX0_tie_1 3 rfl rfl)
theorem dX0_tie_28 : decode cX0_tie 28 = .ok (.aaload, 1) := dk_50 (dk_at dksX0_tie_1 4 rfl rfl)
theorem dX0_tie_29 : decode cX0_tie 29 = .ok (.getfield 96, 3) := dk_180 0 96 (dk_at dksX0_tie_1 5 rfl rfl)
theorem dX0_tie_32 : decode cX0_tie 32 = .ok (.astore 5, 2) := dk_58 5 (dk_at dksX0_tie_1 8 rfl rfl)
theorem dX0_tie_34 : decode cX0_tie 34 = .ok (.aload_n 0, 1) := dk_42 (dk_at dksX0_tie_1 10 rfl rfl)
theorem dX0_tie_35 : decode cX0_tie 35 = .ok (.getfield 18, 3) := dk_180 0 18 (dk_at dksX0_tie_1 11 rfl rfl)
theorem dX0_tie_38 : decode cX0_tie 38 = .ok (.iload_n 3, 1) := dk_29 (dk_at dksX0_tie_1 14 rfl rfl)
theorem dX0_tie_39 : decode cX0_tie 39 = .ok (.aaload, 1) := dk_50 (dk_at dksX0_tie_1 15 rfl rfl)
theorem dX0_tie_40 : decode cX0_tie 40 = .ok (.getfield 96, 3) := dk_180 0 96 (dk_at dksX0_tie_1 16 rfl rfl)
theorem dX0_tie_43 : decode cX0_tie 43 = .ok (.astore 6, 2) := dk_58 6 (dk_at dksX0_tie_1 19 rfl rfl)
theorem dX0_tie_45 : decode cX0_tie 45 = .ok (.aload_n 0, 1) := dk_42 (dk_at dksX0_tie_1 21 rfl rfl)
theorem dX0_tie_46 : decode cX0_tie 46 = .ok (.getfield 18, 3) := dk_180 0 18 (dk_at dksX0_tie_2 0 rfl rfl)
theorem dX0_tie_49 : decode cX0_tie 49 = .ok (.iload_n 1, 1) := dk_27 (dk_at dksX0_tie_2 3 rfl rfl)
theorem dX0_tie_50 : decode cX0_tie 50 = .ok (.aaload, 1) := dk_50 (dk_at dksX0_tie_2 4 rfl rfl)
theorem dX0_tie_51 : decode cX0_tie 51 = .ok (.getfield 101, 3) := dk_180 0 101 (dk_at dksX0_tie_2 5 rfl rfl)
theorem dX0_tie_54 : decode cX0_tie 54 = .ok (.checkcast 58, 3) := dk_192 0 58 (dk_at dksX0_tie_2 8 rfl rfl)
theorem dX0_tie_57 : decode cX0_tie 57 = .ok (.astore 7, 2) := dk_58 7 (dk_at dksX0_tie_2 11 rfl rfl)
theorem dX0_tie_59 : decode cX0_tie 59 = .ok (.aload_n 0, 1) := dk_42 (dk_at dksX0_tie_2 13 rfl rfl)
theorem dX0_tie_60 : decode cX0_tie 60 = .ok (.getfield 18, 3) := dk_180 0 18 (dk_at dksX0_tie_2 14 rfl rfl)
theorem dX0_tie_63 : decode cX0_tie 63 = .ok (.iload_n 3, 1) := dk_29 (dk_at dksX0_tie_2 17 rfl rfl)
theorem dX0_tie_64 : decode cX0_tie 64 = .ok (.aaload, 1) := dk_50 (dk_at dksX0_tie_2 18 rfl rfl)
theorem dX0_tie_65 : decode cX0_tie 65 = .ok (.getfield 101, 3) := dk_180 0 101 (dk_at dksX0_tie_2 19 rfl rfl)
theorem dX0_tie_68 : decode cX0_tie 68 = .ok (.checkcast 58, 3) := dk_192 0 58 (dk_at dksX0_tie_3 0 rfl rfl)
theorem dX0_tie_71 : decode cX0_tie 71 = .ok (.astore 8, 2) := dk_58 8 (dk_at dksX0_tie_3 3 rfl rfl)
theorem dX0_tie_73 : decode cX0_tie 73 = .ok (.aload 5, 2) := dk_25 5 (dk_at dksX0_tie_3 5 rfl rfl)
theorem dX0_tie_75 : decode cX0_tie 75 = .ok (.iconst 0, 1) := dk_3 (dk_at dksX0_tie_3 7 rfl rfl)
theorem dX0_tie_76 : decode cX0_tie 76 = .ok (.iload_n 2, 1) := dk_28 (dk_at dksX0_tie_3 8 rfl rfl)
theorem dX0_tie_77 : decode cX0_tie 77 = .ok (.invokevirtual 180, 3) := dk_182 0 180 (dk_at dksX0_tie_3 9 rfl rfl)
theorem dX0_tie_80 : decode cX0_tie 80 = .ok (.ifCond .ne 9, 3) := dk_154 0 9 (dk_at dksX0_tie_3 12 rfl rfl)
theorem dX0_tie_83 : decode cX0_tie 83 = .ok (.aload_n 0, 1) := dk_42 (dk_at dksX0_tie_3 15 rfl rfl)
theorem dX0_tie_84 : decode cX0_tie 84 = .ok (.iconst 0, 1) := dk_3 (dk_at dksX0_tie_3 16 rfl rfl)
theorem dX0_tie_85 : decode cX0_tie 85 = .ok (.invokevirtual 174, 3) := dk_182 0 174 (dk_at dksX0_tie_3 17 rfl rfl)
theorem dX0_tie_88 : decode cX0_tie 88 = .ok (.ireturn, 1) := dk_172 (dk_at dksX0_tie_3 20 rfl rfl)
theorem dX0_tie_89 : decode cX0_tie 89 = .ok (.aload 6, 2) := dk_25 6 (dk_at dksX0_tie_3 21 rfl rfl)
theorem dX0_tie_91 : decode cX0_tie 91 = .ok (.iconst 0, 1) := dk_3 (dk_at dksX0_tie_3 23 rfl rfl)
theorem dX0_tie_92 : decode cX0_tie 92 = .ok (.iload 4, 2) := dk_21 4 (dk_at dksX0_tie_4 0 rfl rfl)
theorem dX0_tie_94 : decode cX0_tie 94 = .ok (.invokevirtual 180, 3) := dk_182 0 180 (dk_at dksX0_tie_4 2 rfl rfl)
theorem dX0_tie_97 : decode cX0_tie 97 = .ok (.ifCond .ne 9, 3) := dk_154 0 9 (dk_at dksX0_tie_4 5 rfl rfl)
theorem dX0_tie_100 : decode cX0_tie 100 = .ok (.aload_n 0, 1) := dk_42 (dk_at dksX0_tie_4 8 rfl rfl)
theorem dX0_tie_101 : decode cX0_tie 101 = .ok (.iconst 1, 1) := dk_4 (dk_at dksX0_tie_4 9 rfl rfl)
theorem dX0_tie_102 : decode cX0_tie 102 = .ok (.invokevirtual 174, 3) := dk_182 0 174 (dk_at dksX0_tie_4 10 rfl rfl)
theorem dX0_tie_105 : decode cX0_tie 105 = .ok (.ireturn, 1) := dk_172 (dk_at dksX0_tie_4 13 rfl rfl)
theorem dX0_tie_106 : decode cX0_tie 106 = .ok (.aload 7, 2) := dk_25 7 (dk_at dksX0_tie_4 14 rfl rfl)
theorem dX0_tie_108 : decode cX0_tie 108 = .ok (.iload_n 2, 1) := dk_28 (dk_at dksX0_tie_4 16 rfl rfl)
theorem dX0_tie_109 : decode cX0_tie 109 = .ok (.aload 5, 2) := dk_25 5 (dk_at dksX0_tie_4 17 rfl rfl)
theorem dX0_tie_111 : decode cX0_tie 111 = .ok (.getfield 105, 3) := dk_180 0 105 (dk_at dksX0_tie_4 19 rfl rfl)
theorem dX0_tie_114 : decode cX0_tie 114 = .ok (.iconst 0, 1) := dk_3 (dk_at dksX0_tie_4 22 rfl rfl)
theorem dX0_tie_115 : decode cX0_tie 115 = .ok (.iaload, 1) := dk_46 (dk_at dksX0_tie_4 23 rfl rfl)
theorem dX0_tie_116 : decode cX0_tie 116 = .ok (.isub, 1) := dk_100 (dk_at dksX0_tie_5 0 rfl rfl)
theorem dX0_tie_117 : decode cX0_tie 117 = .ok (.aload 8, 2) := dk_25 8 (dk_at dksX0_tie_5 1 rfl rfl)
theorem dX0_tie_119 : decode cX0_tie 119 = .ok (.iload 4, 2) := dk_21 4 (dk_at dksX0_tie_5 3 rfl rfl)
theorem dX0_tie_121 : decode cX0_tie 121 = .ok (.aload 6, 2) := dk_25 6 (dk_at dksX0_tie_5 5 rfl rfl)
theorem dX0_tie_123 : decode cX0_tie 123 = .ok (.getfield 105, 3) := dk_180 0 105 (dk_at dksX0_tie_5 7 rfl rfl)
theorem dX0_tie_126 : decode cX0_tie 126 = .ok (.iconst 0, 1) := dk_3 (dk_at dksX0_tie_5 10 rfl rfl)
theorem dX0_tie_127 : decode cX0_tie 127 = .ok (.iaload, 1) := dk_46 (dk_at dksX0_tie_5 11 rfl rfl)
theorem dX0_tie_128 : decode cX0_tie 128 = .ok (.isub, 1) := dk_100 (dk_at dksX0_tie_5 12 rfl rfl)
theorem dX0_tie_129 : decode cX0_tie 129 = .ok (.aaload, 1) := dk_50 (dk_at dksX0_tie_5 13 rfl rfl)
theorem dX0_tie_130 : decode cX0_tie 130 = .ok (.aastore, 1) := dk_83 (dk_at dksX0_tie_5 14 rfl rfl)
theorem dX0_tie_131 : decode cX0_tie 131 = .ok (.aload_n 0, 1) := dk_42 (dk_at dksX0_tie_5 15 rfl rfl)
theorem dX0_tie_132 : decode cX0_tie 132 = .ok (.iconst 1, 1) := dk_4 (dk_at dksX0_tie_5 16 rfl rfl)
theorem dX0_tie_133 : decode cX0_tie 133 = .ok (.invokevirtual 114, 3) := dk_182 0 114 (dk_at dksX0_tie_5 17 rfl rfl)
theorem dX0_tie_136 : decode cX0_tie 136 = .ok (.ireturn, 1) := dk_172 (dk_at dksX0_tie_5 20 rfl rfl)
theorem dX0_tie_137 : decode cX0_tie 137 = .ok (.astore 7, 2) := dk_58 7 (dk_at dksX0_tie_5 21 rfl rfl)
theorem dX0_tie_139 : decode cX0_tie 139 = .ok (.aload_n 0, 1) := dk_42 (dk_at dksX0_tie_5 23 rfl rfl)
theorem dX0_tie_140 : decode cX0_tie 140 = .ok (.iconst 2, 1) := dk_5 (dk_at dksX0_tie_6 0 rfl rfl)
theorem dX0_tie_141 : decode cX0_tie 141 = .ok (.invokevirtual 47, 3) := dk_182 0 47 (dk_at dksX0_tie_6 1 rfl rfl)
theorem dX0_tie_144 : decode cX0_tie 144 = .ok (.ireturn, 1) := dk_172 (dk_at dksX0_tie_6 4 rfl rfl)
abbrev cX0_get : ByteArray := prog_1_method_32_code
def yX0_get : MethodName := ⟨RX0, "get", "(IIII)J"⟩
def dkwX0_get_7 : List UInt8 := [42, 4, 182, 0, 174, 133, 173]
abbrev dktX0_get_7 : List UInt8 := dkwX0_get_7 ++ []
def dkwX0_get_6 : List UInt8 := [184, 0, 84, 55, 8, 42, 3, 181, 0, 44, 22, 8, 173, 58, 7, 42, 4, 182, 0, 47, 133, 173, 58, 7]
abbrev dktX0_get_6 : List UInt8 := dkwX0_get_6 ++ dktX0_get_7
def dkwX0_get_5 : List UInt8 := [159, 0, 11, 42, 21, 7, 182, 0, 174, 133, 173, 25, 6, 25, 5, 42, 180, 0, 34, 182, 0, 160]
abbrev dktX0_get_5 : List UInt8 := dkwX0_get_5 ++ dktX0_get_6
def dkwX0_get_4 : List UInt8 := [55, 7, 42, 3, 181, 0, 44, 22, 7, 173, 25, 5, 42, 180, 0, 34, 182, 0, 171, 54, 7, 21, 7, 2]
abbrev dktX0_get_4 : List UInt8 := dkwX0_get_4 ++ dktX0_get_5
def dkwX0_get_3 : List UInt8 := [173, 25, 6, 192, 0, 58, 28, 25, 5, 180, 0, 105, 3, 46, 100, 50, 25, 5, 29, 184, 0, 188, 46, 133]
abbrev dktX0_get_3 : List UInt8 := dkwX0_get_3 ++ dktX0_get_4
def dkwX0_get_2 : List UInt8 := [25, 6, 193, 0, 58, 153, 0, 53, 25, 5, 3, 28, 182, 0, 180, 154, 0, 10, 42, 3, 182, 0, 174, 133]
abbrev dktX0_get_2 : List UInt8 := dkwX0_get_2 ++ dktX0_get_3
def dkwX0_get_1 : List UInt8 := [180, 0, 96, 58, 5, 42, 180, 0, 18, 27, 50, 180, 0, 101, 58, 6, 42, 28, 29, 21, 4, 182, 0, 184]
abbrev dktX0_get_1 : List UInt8 := dkwX0_get_1 ++ dktX0_get_2
def dkwX0_get_0 : List UInt8 := [42, 27, 182, 0, 143, 154, 0, 11, 42, 16, 7, 182, 0, 47, 133, 173, 42, 180, 0, 18, 27, 50]
abbrev dktX0_get_0 : List UInt8 := dkwX0_get_0 ++ dktX0_get_1
theorem dksX0_get_0 : cX0_get.data.toList.drop 0 = dktX0_get_0 := by decide +kernel
theorem dksX0_get_1 : cX0_get.data.toList.drop 22 = dktX0_get_1 := dk_seg dksX0_get_0 22 rfl rfl
theorem dksX0_get_2 : cX0_get.data.toList.drop 46 = dktX0_get_2 := dk_seg dksX0_get_1 24 rfl rfl
theorem dksX0_get_3 : cX0_get.data.toList.drop 70 = dktX0_get_3 := dk_seg dksX0_get_2 24 rfl rfl
theorem dksX0_get_4 : cX0_get.data.toList.drop 94 = dktX0_get_4 := dk_seg dksX0_get_3 24 rfl rfl
theorem dksX0_get_5 : cX0_get.data.toList.drop 118 = dktX0_get_5 := dk_seg dksX0_get_4 24 rfl rfl
theorem dksX0_get_6 : cX0_get.data.toList.drop 140 = dktX0_get_6 := dk_seg dksX0_get_5 22 rfl rfl
theorem dksX0_get_7 : cX0_get.data.toList.drop 164 = dktX0_get_7 := dk_seg dksX0_get_6 24 rfl rfl
theorem dX0_get_0 : decode cX0_get 0 = .ok (.aload_n 0, 1) := dk_42 (dk_at dksX0_get_0 0 rfl rfl)
theorem dX0_get_1 : decode cX0_get 1 = .ok (.iload_n 1, 1) := dk_27 (dk_at dksX0_get_0 1 rfl rfl)
theorem dX0_get_2 : decode cX0_get 2 = .ok (.invokevirtual 143, 3) := dk_182 0 143 (dk_at dksX0_get_0 2 rfl rfl)
theorem dX0_get_5 : decode cX0_get 5 = .ok (.ifCond .ne 11, 3) := dk_154 0 11 (dk_at dksX0_get_0 5 rfl rfl)
theorem dX0_get_8 : decode cX0_get 8 = .ok (.aload_n 0, 1) := dk_42 (dk_at dksX0_get_0 8 rfl rfl)
theorem dX0_get_9 : decode cX0_get 9 = .ok (.bipush 7, 2) := dk_16 7 (dk_at dksX0_get_0 9 rfl rfl)
theorem dX0_get_11 : decode cX0_get 11 = .ok (.invokevirtual 47, 3) := dk_182 0 47 (dk_at dksX0_get_0 11 rfl rfl)
theorem dX0_get_14 : decode cX0_get 14 = .ok (.i2l, 1) := dk_133 (dk_at dksX0_get_0 14 rfl rfl)
theorem dX0_get_15 : decode cX0_get 15 = .ok (.lreturn, 1) := dk_173 (dk_at dksX0_get_0 15 rfl rfl)
theorem dX0_get_16 : decode cX0_get 16 = .ok (.aload_n 0, 1) := dk_42 (dk_at dksX0_get_0 16 rfl rfl)
theorem dX0_get_17 : decode cX0_get 17 = .ok (.getfield 18, 3) := dk_180 0 18 (dk_at dksX0_get_0 17 rfl rfl)
theorem dX0_get_20 : decode cX0_get 20 = .ok (.iload_n 1, 1) := dk_27 (dk_at dksX0_get_0 20 rfl rfl)
theorem dX0_get_21 : decode cX0_get 21 = .ok (.aaload, 1) := dk_50 (dk_at dksX0_get_0 21 rfl rfl)
theorem dX0_get_22 : decode cX0_get 22 = .ok (.getfield 96, 3) := dk_180 0 96 (dk_at dksX0_get_1 0 rfl rfl)
theorem dX0_get_25 : decode cX0_get 25 = .ok (.astore 5, 2) := dk_58 5 (dk_at dksX0_get_1 3 rfl rfl)
theorem dX0_get_27 : decode cX0_get 27 = .ok (.aload_n 0, 1) := dk_42 (dk_at dksX0_get_1 5 rfl rfl)
theorem dX0_get_28 : decode cX0_get 28 = .ok (.getfield 18, 3) := dk_180 0 18 (dk_at dksX0_get_1 6 rfl rfl)
theorem dX0_get_31 : decode cX0_get 31 = .ok (.iload_n 1, 1) := dk_27 (dk_at dksX0_get_1 9 rfl rfl)
theorem dX0_get_32 : decode cX0_get 32 = .ok (.aaload, 1) := dk_50 (dk_at dksX0_get_1 10 rfl rfl)
theorem dX0_get_33 : decode cX0_get 33 = .ok (.getfield 101, 3) := dk_180 0 101 (dk_at dksX0_get_1 11 rfl rfl)
theorem dX0_get_36 : decode cX0_get 36 = .ok (.astore 6, 2) := dk_58 6 (dk_at dksX0_get_1 14 rfl rfl)
theorem dX0_get_38 : decode cX0_get 38 = .ok (.aload_n 0, 1) := dk_42 (dk_at dksX0_get_1 16 rfl rfl)
theorem dX0_get_39 : decode cX0_get 39 = .ok (.iload_n 2, 1) := dk_28 (dk_at dksX0_get_1 17 rfl rfl)
theorem dX0_get_40 : decode cX0_get 40 = .ok (.iload_n 3, 1) := dk_29 (dk_at dksX0_get_1 18 rfl rfl)
theorem dX0_get_41 : decode cX0_get 41 = .ok (.iload 4, 2) := dk_21 4 (dk_at dksX0_get_1 19 rfl rfl)
theorem dX0_get_43 : decode cX0_get 43 = .ok (.invokevirtual 184, 3) := dk_182 0 184 (dk_at dksX0_get_1 21 rfl rfl)
theorem dX0_get_46 : decode cX0_get 46 = .ok (.aload 6, 2) := dk_25 6 (dk_at dksX0_get_2 0 rfl rfl)
theorem dX0_get_48 : decode cX0_get 48 = .ok (.instanceof 58, 3) := dk_193 0 58 (dk_at dksX0_get_2 2 rfl rfl)
theorem dX0_get_51 : decode cX0_get 51 = .ok (.ifCond .eq 53, 3) := dk_153 0 53 (dk_at dksX0_get_2 5 rfl rfl)
theorem dX0_get_54 : decode cX0_get 54 = .ok (.aload 5, 2) := dk_25 5 (dk_at dksX0_get_2 8 rfl rfl)
theorem dX0_get_56 : decode cX0_get 56 = .ok (.iconst 0, 1) := dk_3 (dk_at dksX0_get_2 10 rfl rfl)
theorem dX0_get_57 : decode cX0_get 57 = .ok (.iload_n 2, 1) := dk_28 (dk_at dksX0_get_2 11 rfl rfl)
theorem dX0_get_58 : decode cX0_get 58 = .ok (.invokevirtual 180, 3) := dk_182 0 180 (dk_at dksX0_get_2 12 rfl rfl)
theorem dX0_get_61 : decode cX0_get 61 = .ok (.ifCond .ne 10, 3) := dk_154 0 10 (dk_at dksX0_get_2 15 rfl rfl)
theorem dX0_get_64 : decode cX0_get 64 = .ok (.aload_n 0, 1) := dk_42 (dk_at dksX0_get_2 18 rfl rfl)
theorem dX0_get_65 : decode cX0_get 65 = .ok (.iconst 0, 1) := dk_3 (dk_at dksX0_get_2 19 rfl rfl)
theorem dX0_get_66 : decode cX0_get 66 = .ok (.invokevirtual 174, 3) := dk_182 0 174 (dk_at dksX0_get_2 20 rfl rfl)
theorem dX0_get_69 : decode cX0_get 69 = .ok (.i2l, 1) := dk_133 (dk_at dksX0_get_2 23 rfl rfl)
theorem dX0_get_70 : decode cX0_get 70 = .ok (.lreturn, 1) := dk_173 (dk_at dksX0_get_3 0 rfl rfl)
theorem dX0_get_71 : decode cX0_get 71 = .ok (.aload 6, 2) := dk_25 6 (dk_at dksX0_get_3 1 rfl rfl)
theorem dX0_get_73 : decode cX0_get 73 = .ok (.checkcast 58, 3) := dk_192 0 58 (dk_at dksX0_get_3 3 rfl rfl)
theorem dX0_get_76 : decode cX0_get 76 = .ok (.iload_n 2, 1) := dk_28 (dk_at dksX0_get_3 6 rfl rfl)
theorem dX0_get_77 : decode cX0_get 77 = .ok (.aload 5, 2) := dk_25 5 (dk_at dksX0_get_3 7 rfl rfl)
theorem dX0_get_79 : decode cX0_get 79 = .ok (.getfield 105, 3) := dk_180 0 105 (dk_at dksX0_get_3 9 rfl rfl)
theorem dX0_get_82 : decode cX0_get 82 = .ok (.iconst 0, 1) := dk_3 (dk_at dksX0_get_3 12 rfl rfl)
theorem dX0_get_83 : decode cX0_get 83 = .ok (.iaload, 1) := dk_46 (dk_at dksX0_get_3 13 rfl rfl)
theorem dX0_get_84 : decode cX0_get 84 = .ok (.isub, 1) := dk_100 (dk_at dksX0_get_3 14 rfl rfl)
theorem dX0_get_85 : decode cX0_get 85 = .ok (.aaload, 1) := dk_50 (dk_at dksX0_get_3 15 rfl rfl)
theorem dX0_get_86 : decode cX0_get 86 = .ok (.aload 5, 2) := dk_25 5 (dk_at dksX0_get_3 16 rfl rfl)
theorem dX0_get_88 : decode cX0_get 88 = .ok (.iload_n 3, 1) := dk_29 (dk_at dksX0_get_3 18 rfl rfl)
theorem dX0_get_89 : decode cX0_get 89 = .ok (.invokestatic 188, 3) := dk_184 0 188 (dk_at dksX0_get_3 19 rfl rfl)
theorem dX0_get_92 : decode cX0_get 92 = .ok (.iaload, 1) := dk_46 (dk_at dksX0_get_3 22 rfl rfl)
theorem dX0_get_93 : decode cX0_get 93 = .ok (.i2l, 1) := dk_133 (dk_at dksX0_get_3 23 rfl rfl)
theorem dX0_get_94 : decode cX0_get 94 = .ok (.lstore 7, 2) := dk_55 7 (dk_at dksX0_get_4 0 rfl rfl)
theorem dX0_get_96 : decode cX0_get 96 = .ok (.aload_n 0, 1) := dk_42 (dk_at dksX0_get_4 2 rfl rfl)
theorem dX0_get_97 : decode cX0_get 97 = .ok (.iconst 0, 1) := dk_3 (dk_at dksX0_get_4 3 rfl rfl)
theorem dX0_get_98 : decode cX0_get 98 = .ok (.putfield 44, 3) := dk_181 0 44 (dk_at dksX0_get_4 4 rfl rfl)
theorem dX0_get_101 : decode cX0_get 101 = .ok (.lload 7, 2) := dk_22 7 (dk_at dksX0_get_4 7 rfl rfl)
theorem dX0_get_103 : decode cX0_get 103 = .ok (.lreturn, 1) := dk_173 (dk_at dksX0_get_4 9 rfl rfl)
theorem dX0_get_104 : decode cX0_get 104 = .ok (.aload 5, 2) := dk_25 5 (dk_at dksX0_get_4 10 rfl rfl)
theorem dX0_get_106 : decode cX0_get 106 = .ok (.aload_n 0, 1) := dk_42 (dk_at dksX0_get_4 12 rfl rfl)
theorem dX0_get_107 : decode cX0_get 107 = .ok (.getfield 34, 3) := dk_180 0 34 (dk_at dksX0_get_4 13 rfl rfl)
theorem dX0_get_110 : decode cX0_get 110 = .ok (.invokevirtual 171, 3) := dk_182 0 171 (dk_at dksX0_get_4 16 rfl rfl)
theorem dX0_get_113 : decode cX0_get 113 = .ok (.istore 7, 2) := dk_54 7 (dk_at dksX0_get_4 19 rfl rfl)
theorem dX0_get_115 : decode cX0_get 115 = .ok (.iload 7, 2) := dk_21 7 (dk_at dksX0_get_4 21 rfl rfl)
theorem dX0_get_117 : decode cX0_get 117 = .ok (.iconst (-1), 1) := dk_2 (dk_at dksX0_get_4 23 rfl rfl)
theorem dX0_get_118 : decode cX0_get 118 = .ok (.if_icmp .eq 11, 3) := dk_159 0 11 (dk_at dksX0_get_5 0 rfl rfl)
theorem dX0_get_121 : decode cX0_get 121 = .ok (.aload_n 0, 1) := dk_42 (dk_at dksX0_get_5 3 rfl rfl)
theorem dX0_get_122 : decode cX0_get 122 = .ok (.iload 7, 2) := dk_21 7 (dk_at dksX0_get_5 4 rfl rfl)
theorem dX0_get_124 : decode cX0_get 124 = .ok (.invokevirtual 174, 3) := dk_182 0 174 (dk_at dksX0_get_5 6 rfl rfl)
theorem dX0_get_127 : decode cX0_get 127 = .ok (.i2l, 1) := dk_133 (dk_at dksX0_get_5 9 rfl rfl)
theorem dX0_get_128 : decode cX0_get 128 = .ok (.lreturn, 1) := dk_173 (dk_at dksX0_get_5 10 rfl rfl)
theorem dX0_get_129 : decode cX0_get 129 = .ok (.aload 6, 2) := dk_25 6 (dk_at dksX0_get_5 11 rfl rfl)
theorem dX0_get_131 : decode cX0_get 131 = .ok (.aload 5, 2) := dk_25 5 (dk_at dksX0_get_5 13 rfl rfl)
theorem dX0_get_133 : decode cX0_get 133 = .ok (.aload_n 0, 1) := dk_42 (dk_at dksX0_get_5 15 rfl rfl)
theorem dX0_get_134 : decode cX0_get 134 = .ok (.getfield 34, 3) := dk_180 0 34 (dk_at dksX0_get_5 16 rfl rfl)
theorem dX0_get_137 : decode cX0_get 137 = .ok (.invokevirtual 160, 3) := dk_182 0 160 (dk_at dksX0_get_5 19 rfl rfl)
theorem dX0_get_140 : decode cX0_get 140 = .ok (.invokestatic 84, 3) := dk_184 0 84 (dk_at dksX0_get_6 0 rfl rfl)
theorem dX0_get_143 : decode cX0_get 143 = .ok (.lstore 8, 2) := dk_55 8 (dk_at dksX0_get_6 3 rfl rfl)
theorem dX0_get_145 : decode cX0_get 145 = .ok (.aload_n 0, 1) := dk_42 (dk_at dksX0_get_6 5 rfl rfl)
theorem dX0_get_146 : decode cX0_get 146 = .ok (.iconst 0, 1) := dk_3 (dk_at dksX0_get_6 6 rfl rfl)
theorem dX0_get_147 : decode cX0_get 147 = .ok (.putfield 44, 3) := dk_181 0 44 (dk_at dksX0_get_6 7 rfl rfl)
theorem dX0_get_150 : decode cX0_get 150 = .ok (.lload 8, 2) := dk_22 8 (dk_at dksX0_get_6 10 rfl rfl)
theorem dX0_get_152 : decode cX0_get 152 = .ok (.lreturn, 1) := dk_173 (dk_at dksX0_get_6 12 rfl rfl)
theorem dX0_get_153 : decode cX0_get 153 = .ok (.astore 7, 2) := dk_58 7 (dk_at dksX0_get_6 13 rfl rfl)
theorem dX0_get_155 : decode cX0_get 155 = .ok (.aload_n 0, 1) := dk_42 (dk_at dksX0_get_6 15 rfl rfl)
theorem dX0_get_156 : decode cX0_get 156 = .ok (.iconst 1, 1) := dk_4 (dk_at dksX0_get_6 16 rfl rfl)
theorem dX0_get_157 : decode cX0_get 157 = .ok (.invokevirtual 47, 3) := dk_182 0 47 (dk_at dksX0_get_6 17 rfl rfl)
theorem dX0_get_160 : decode cX0_get 160 = .ok (.i2l, 1) := dk_133 (dk_at dksX0_get_6 20 rfl rfl)
theorem dX0_get_161 : decode cX0_get 161 = .ok (.lreturn, 1) := dk_173 (dk_at dksX0_get_6 21 rfl rfl)
theorem dX0_get_162 : decode cX0_get 162 = .ok (.astore 7, 2) := dk_58 7 (dk_at dksX0_get_6 22 rfl rfl)
theorem dX0_get_164 : decode cX0_get 164 = .ok (.aload_n 0, 1) := dk_42 (dk_at dksX0_get_7 0 rfl rfl)
theorem dX0_get_165 : decode cX0_get 165 = .ok (.iconst 1, 1) := dk_4 (dk_at dksX0_get_7 1 rfl rfl)
theorem dX0_get_166 : decode cX0_get 166 = .ok (.invokevirtual 174, 3) := dk_182 0 174 (dk_at dksX0_get_7 2 rfl rfl)
theorem dX0_get_169 : decode cX0_get 169 = .ok (.i2l, 1) := dk_133 (dk_at dksX0_get_7 5 rfl rfl)
theorem dX0_get_170 : decode cX0_get 170 = .ok (.lreturn, 1) := dk_173 (dk_at dksX0_get_7 6 rfl rfl)
abbrev cX0_lay : ByteArray := prog_1_method_30_code
def yX0_lay : MethodName := ⟨RX0, "lay", "(III)V"⟩
def dkwX0_lay_0 : List UInt8 := [42, 180, 0, 34, 3, 27, 79, 42, 180, 0, 34, 4, 28, 79, 42, 180, 0, 34, 5, 29, 79, 177]
abbrev dktX0_lay_0 : List UInt8 := dkwX0_lay_0 ++ []
theorem dksX0_lay_0 : cX0_lay.data.toList.drop 0 = dktX0_lay_0 := by decide +kernel
theorem dX0_lay_0 : decode cX0_lay 0 = .ok (.aload_n 0, 1) := dk_42 (dk_at dksX0_lay_0 0 rfl rfl)
theorem dX0_lay_1 : decode cX0_lay 1 = .ok (.getfield 34, 3) := dk_180 0 34 (dk_at dksX0_lay_0 1 rfl rfl)
theorem dX0_lay_4 : decode cX0_lay 4 = .ok (.iconst 0, 1) := dk_3 (dk_at dksX0_lay_0 4 rfl rfl)
theorem dX0_lay_5 : decode cX0_lay 5 = .ok (.iload_n 1, 1) := dk_27 (dk_at dksX0_lay_0 5 rfl rfl)
theorem dX0_lay_6 : decode cX0_lay 6 = .ok (.iastore, 1) := dk_79 (dk_at dksX0_lay_0 6 rfl rfl)
theorem dX0_lay_7 : decode cX0_lay 7 = .ok (.aload_n 0, 1) := dk_42 (dk_at dksX0_lay_0 7 rfl rfl)
theorem dX0_lay_8 : decode cX0_lay 8 = .ok (.getfield 34, 3) := dk_180 0 34 (dk_at dksX0_lay_0 8 rfl rfl)
theorem dX0_lay_11 : decode cX0_lay 11 = .ok (.iconst 1, 1) := dk_4 (dk_at dksX0_lay_0 11 rfl rfl)
theorem dX0_lay_12 : decode cX0_lay 12 = .ok (.iload_n 2, 1) := dk_28 (dk_at dksX0_lay_0 12 rfl rfl)
theorem dX0_lay_13 : decode cX0_lay 13 = .ok (.iastore, 1) := dk_79 (dk_at dksX0_lay_0 13 rfl rfl)
theorem dX0_lay_14 : decode cX0_lay 14 = .ok (.aload_n 0, 1) := dk_42 (dk_at dksX0_lay_0 14 rfl rfl)
theorem dX0_lay_15 : decode cX0_lay 15 = .ok (.getfield 34, 3) := dk_180 0 34 (dk_at dksX0_lay_0 15 rfl rfl)
theorem dX0_lay_18 : decode cX0_lay 18 = .ok (.iconst 2, 1) := dk_5 (dk_at dksX0_lay_0 18 rfl rfl)
theorem dX0_lay_19 : decode cX0_lay 19 = .ok (.iload_n 3, 1) := dk_29 (dk_at dksX0_lay_0 19 rfl rfl)
theorem dX0_lay_20 : decode cX0_lay 20 = .ok (.iastore, 1) := dk_79 (dk_at dksX0_lay_0 20 rfl rfl)
theorem dX0_lay_21 : decode cX0_lay 21 = .ok (.return_, 1) := dk_177 (dk_at dksX0_lay_0 21 rfl rfl)
abbrev cX0_within : ByteArray := prog_1_method_31_code
def yX0_within : MethodName := ⟨RX0, "within", "(LArrayMaker$Shape;I)I"⟩
def dkwX0_within_1 : List UInt8 := [167, 0, 15, 32, 9, 148, 156, 0, 7, 2, 167, 0, 5, 32, 136, 172]
abbrev dktX0_within_1 : List UInt8 := dkwX0_within_1 ++ []
def dkwX0_within_0 : List UInt8 := [27, 133, 42, 180, 0, 105, 4, 46, 133, 101, 65, 32, 20, 0, 128, 148, 158, 0, 9, 17, 1, 244]
abbrev dktX0_within_0 : List UInt8 := dkwX0_within_0 ++ dktX0_within_1
theorem dksX0_within_0 : cX0_within.data.toList.drop 0 = dktX0_within_0 := by decide +kernel
theorem dksX0_within_1 : cX0_within.data.toList.drop 22 = dktX0_within_1 := dk_seg dksX0_within_0 22 rfl rfl
theorem dX0_within_0 : decode cX0_within 0 = .ok (.iload_n 1, 1) := dk_27 (dk_at dksX0_within_0 0 rfl rfl)
theorem dX0_within_1 : decode cX0_within 1 = .ok (.i2l, 1) := dk_133 (dk_at dksX0_within_0 1 rfl rfl)
theorem dX0_within_2 : decode cX0_within 2 = .ok (.aload_n 0, 1) := dk_42 (dk_at dksX0_within_0 2 rfl rfl)
theorem dX0_within_3 : decode cX0_within 3 = .ok (.getfield 105, 3) := dk_180 0 105 (dk_at dksX0_within_0 3 rfl rfl)
theorem dX0_within_6 : decode cX0_within 6 = .ok (.iconst 1, 1) := dk_4 (dk_at dksX0_within_0 6 rfl rfl)
theorem dX0_within_7 : decode cX0_within 7 = .ok (.iaload, 1) := dk_46 (dk_at dksX0_within_0 7 rfl rfl)
theorem dX0_within_8 : decode cX0_within 8 = .ok (.i2l, 1) := dk_133 (dk_at dksX0_within_0 8 rfl rfl)
theorem dX0_within_9 : decode cX0_within 9 = .ok (.lsub, 1) := dk_101 (dk_at dksX0_within_0 9 rfl rfl)
theorem dX0_within_10 : decode cX0_within 10 = .ok (.lstore_n 2, 1) := dk_65 (dk_at dksX0_within_0 10 rfl rfl)
theorem dX0_within_11 : decode cX0_within 11 = .ok (.lload_n 2, 1) := dk_32 (dk_at dksX0_within_0 11 rfl rfl)
theorem dX0_within_12 : decode cX0_within 12 = .ok (.ldc2_w 128, 3) := dk_20 0 128 (dk_at dksX0_within_0 12 rfl rfl)
theorem dX0_within_15 : decode cX0_within 15 = .ok (.lcmp, 1) := dk_148 (dk_at dksX0_within_0 15 rfl rfl)
theorem dX0_within_16 : decode cX0_within 16 = .ok (.ifCond .le 9, 3) := dk_158 0 9 (dk_at dksX0_within_0 16 rfl rfl)
theorem dX0_within_19 : decode cX0_within 19 = .ok (.sipush 500, 3) := dk_17 1 244 (dk_at dksX0_within_0 19 rfl rfl)
theorem dX0_within_22 : decode cX0_within 22 = .ok (.goto 15, 3) := dk_167 0 15 (dk_at dksX0_within_1 0 rfl rfl)
theorem dX0_within_25 : decode cX0_within 25 = .ok (.lload_n 2, 1) := dk_32 (dk_at dksX0_within_1 3 rfl rfl)
theorem dX0_within_26 : decode cX0_within 26 = .ok (.lconst 0, 1) := dk_9 (dk_at dksX0_within_1 4 rfl rfl)
theorem dX0_within_27 : decode cX0_within 27 = .ok (.lcmp, 1) := dk_148 (dk_at dksX0_within_1 5 rfl rfl)
theorem dX0_within_28 : decode cX0_within 28 = .ok (.ifCond .ge 7, 3) := dk_156 0 7 (dk_at dksX0_within_1 6 rfl rfl)
theorem dX0_within_31 : decode cX0_within 31 = .ok (.iconst (-1), 1) := dk_2 (dk_at dksX0_within_1 9 rfl rfl)
theorem dX0_within_32 : decode cX0_within 32 = .ok (.goto 5, 3) := dk_167 0 5 (dk_at dksX0_within_1 10 rfl rfl)
theorem dX0_within_35 : decode cX0_within 35 = .ok (.lload_n 2, 1) := dk_32 (dk_at dksX0_within_1 13 rfl rfl)
theorem dX0_within_36 : decode cX0_within 36 = .ok (.l2i, 1) := dk_136 (dk_at dksX0_within_1 14 rfl rfl)
theorem dX0_within_37 : decode cX0_within 37 = .ok (.ireturn, 1) := dk_172 (dk_at dksX0_within_1 15 rfl rfl)
abbrev cX0_at : ByteArray := prog_1_method_9_code
def yX0_at : MethodName := ⟨RX0, "at", "(Ljava/lang/Object;I)J"⟩
def dkwX0_at_2 : List UInt8 := [192, 0, 66, 27, 50, 180, 0, 68, 173]
abbrev dktX0_at_2 : List UInt8 := dkwX0_at_2 ++ []
def dkwX0_at_1 : List UInt8 := [192, 0, 56, 27, 46, 133, 173, 42, 193, 0, 57, 153, 0, 10, 42, 192, 0, 57, 27, 47, 173, 42]
abbrev dktX0_at_1 : List UInt8 := dkwX0_at_1 ++ dktX0_at_2
def dkwX0_at_0 : List UInt8 := [42, 193, 0, 54, 153, 0, 11, 42, 192, 0, 54, 27, 51, 133, 173, 42, 193, 0, 56, 153, 0, 11, 42]
abbrev dktX0_at_0 : List UInt8 := dkwX0_at_0 ++ dktX0_at_1
theorem dksX0_at_0 : cX0_at.data.toList.drop 0 = dktX0_at_0 := by decide +kernel
theorem dksX0_at_1 : cX0_at.data.toList.drop 23 = dktX0_at_1 := dk_seg dksX0_at_0 23 rfl rfl
theorem dksX0_at_2 : cX0_at.data.toList.drop 45 = dktX0_at_2 := dk_seg dksX0_at_1 22 rfl rfl
theorem dX0_at_0 : decode cX0_at 0 = .ok (.aload_n 0, 1) := dk_42 (dk_at dksX0_at_0 0 rfl rfl)
theorem dX0_at_1 : decode cX0_at 1 = .ok (.instanceof 54, 3) := dk_193 0 54 (dk_at dksX0_at_0 1 rfl rfl)
theorem dX0_at_4 : decode cX0_at 4 = .ok (.ifCond .eq 11, 3) := dk_153 0 11 (dk_at dksX0_at_0 4 rfl rfl)
theorem dX0_at_7 : decode cX0_at 7 = .ok (.aload_n 0, 1) := dk_42 (dk_at dksX0_at_0 7 rfl rfl)
theorem dX0_at_8 : decode cX0_at 8 = .ok (.checkcast 54, 3) := dk_192 0 54 (dk_at dksX0_at_0 8 rfl rfl)
theorem dX0_at_11 : decode cX0_at 11 = .ok (.iload_n 1, 1) := dk_27 (dk_at dksX0_at_0 11 rfl rfl)
theorem dX0_at_12 : decode cX0_at 12 = .ok (.baload, 1) := dk_51 (dk_at dksX0_at_0 12 rfl rfl)
theorem dX0_at_13 : decode cX0_at 13 = .ok (.i2l, 1) := dk_133 (dk_at dksX0_at_0 13 rfl rfl)
theorem dX0_at_14 : decode cX0_at 14 = .ok (.lreturn, 1) := dk_173 (dk_at dksX0_at_0 14 rfl rfl)
theorem dX0_at_15 : decode cX0_at 15 = .ok (.aload_n 0, 1) := dk_42 (dk_at dksX0_at_0 15 rfl rfl)
theorem dX0_at_16 : decode cX0_at 16 = .ok (.instanceof 56, 3) := dk_193 0 56 (dk_at dksX0_at_0 16 rfl rfl)
theorem dX0_at_19 : decode cX0_at 19 = .ok (.ifCond .eq 11, 3) := dk_153 0 11 (dk_at dksX0_at_0 19 rfl rfl)
theorem dX0_at_22 : decode cX0_at 22 = .ok (.aload_n 0, 1) := dk_42 (dk_at dksX0_at_0 22 rfl rfl)
theorem dX0_at_23 : decode cX0_at 23 = .ok (.checkcast 56, 3) := dk_192 0 56 (dk_at dksX0_at_1 0 rfl rfl)
theorem dX0_at_26 : decode cX0_at 26 = .ok (.iload_n 1, 1) := dk_27 (dk_at dksX0_at_1 3 rfl rfl)
theorem dX0_at_27 : decode cX0_at 27 = .ok (.iaload, 1) := dk_46 (dk_at dksX0_at_1 4 rfl rfl)
theorem dX0_at_28 : decode cX0_at 28 = .ok (.i2l, 1) := dk_133 (dk_at dksX0_at_1 5 rfl rfl)
theorem dX0_at_29 : decode cX0_at 29 = .ok (.lreturn, 1) := dk_173 (dk_at dksX0_at_1 6 rfl rfl)
theorem dX0_at_30 : decode cX0_at 30 = .ok (.aload_n 0, 1) := dk_42 (dk_at dksX0_at_1 7 rfl rfl)
theorem dX0_at_31 : decode cX0_at 31 = .ok (.instanceof 57, 3) := dk_193 0 57 (dk_at dksX0_at_1 8 rfl rfl)
theorem dX0_at_34 : decode cX0_at 34 = .ok (.ifCond .eq 10, 3) := dk_153 0 10 (dk_at dksX0_at_1 11 rfl rfl)
theorem dX0_at_37 : decode cX0_at 37 = .ok (.aload_n 0, 1) := dk_42 (dk_at dksX0_at_1 14 rfl rfl)
theorem dX0_at_38 : decode cX0_at 38 = .ok (.checkcast 57, 3) := dk_192 0 57 (dk_at dksX0_at_1 15 rfl rfl)
theorem dX0_at_41 : decode cX0_at 41 = .ok (.iload_n 1, 1) := dk_27 (dk_at dksX0_at_1 18 rfl rfl)
theorem dX0_at_42 : decode cX0_at 42 = .ok (.laload, 1) := dk_47 (dk_at dksX0_at_1 19 rfl rfl)
theorem dX0_at_43 : decode cX0_at 43 = .ok (.lreturn, 1) := dk_173 (dk_at dksX0_at_1 20 rfl rfl)
theorem dX0_at_44 : decode cX0_at 44 = .ok (.aload_n 0, 1) := dk_42 (dk_at dksX0_at_1 21 rfl rfl)
theorem dX0_at_45 : decode cX0_at 45 = .ok (.checkcast 66, 3) := dk_192 0 66 (dk_at dksX0_at_2 0 rfl rfl)
theorem dX0_at_48 : decode cX0_at 48 = .ok (.iload_n 1, 1) := dk_27 (dk_at dksX0_at_2 3 rfl rfl)
theorem dX0_at_49 : decode cX0_at 49 = .ok (.aaload, 1) := dk_50 (dk_at dksX0_at_2 4 rfl rfl)
theorem dX0_at_50 : decode cX0_at 50 = .ok (.getfield 68, 3) := dk_180 0 68 (dk_at dksX0_at_2 5 rfl rfl)
theorem dX0_at_53 : decode cX0_at 53 = .ok (.lreturn, 1) := dk_173 (dk_at dksX0_at_2 8 rfl rfl)
abbrev cX0_put : ByteArray := prog_1_method_33_code
def yX0_put : MethodName := ⟨RX0, "put", "(IIIIJ)I"⟩
def dkwX0_put_6 : List UInt8 := [182, 0, 114, 172, 58, 9, 42, 4, 182, 0, 47, 172, 58, 9, 42, 4, 182, 0, 174, 172]
abbrev dktX0_put_6 : List UInt8 := dkwX0_put_6 ++ []
def dkwX0_put_5 : List UInt8 := [21, 9, 182, 0, 174, 172, 25, 8, 25, 7, 42, 180, 0, 34, 182, 0, 160, 22, 5, 184, 0, 92, 42, 4]
abbrev dktX0_put_5 : List UInt8 := dkwX0_put_5 ++ dktX0_put_6
def dkwX0_put_4 : List UInt8 := [4, 182, 0, 114, 172, 25, 7, 42, 180, 0, 34, 182, 0, 171, 54, 9, 21, 9, 2, 159, 0, 10, 42]
abbrev dktX0_put_4 : List UInt8 := dkwX0_put_4 ++ dktX0_put_5
def dkwX0_put_3 : List UInt8 := [192, 0, 58, 28, 25, 7, 180, 0, 105, 3, 46, 100, 50, 25, 7, 29, 184, 0, 188, 22, 5, 136, 79, 42]
abbrev dktX0_put_3 : List UInt8 := dkwX0_put_3 ++ dktX0_put_4
def dkwX0_put_2 : List UInt8 := [193, 0, 58, 153, 0, 50, 25, 7, 3, 28, 182, 0, 180, 154, 0, 9, 42, 3, 182, 0, 174, 172, 25, 8]
abbrev dktX0_put_2 : List UInt8 := dkwX0_put_2 ++ dktX0_put_3
def dkwX0_put_1 : List UInt8 := [58, 7, 42, 180, 0, 18, 27, 50, 180, 0, 101, 58, 8, 42, 28, 29, 21, 4, 182, 0, 184, 25, 8]
abbrev dktX0_put_1 : List UInt8 := dkwX0_put_1 ++ dktX0_put_2
def dkwX0_put_0 : List UInt8 := [42, 27, 182, 0, 143, 154, 0, 10, 42, 16, 7, 182, 0, 47, 172, 42, 180, 0, 18, 27, 50, 180, 0, 96]
abbrev dktX0_put_0 : List UInt8 := dkwX0_put_0 ++ dktX0_put_1
theorem dksX0_put_0 : cX0_put.data.toList.drop 0 = dktX0_put_0 := by decide +kernel
theorem dksX0_put_1 : cX0_put.data.toList.drop 24 = dktX0_put_1 := dk_seg dksX0_put_0 24 rfl rfl
theorem dksX0_put_2 : cX0_put.data.toList.drop 47 = dktX0_put_2 := dk_seg dksX0_put_1 23 rfl rfl
theorem dksX0_put_3 : cX0_put.data.toList.drop 71 = dktX0_put_3 := dk_seg dksX0_put_2 24 rfl rfl
theorem dksX0_put_4 : cX0_put.data.toList.drop 95 = dktX0_put_4 := dk_seg dksX0_put_3 24 rfl rfl
theorem dksX0_put_5 : cX0_put.data.toList.drop 118 = dktX0_put_5 := dk_seg dksX0_put_4 23 rfl rfl
theorem dksX0_put_6 : cX0_put.data.toList.drop 142 = dktX0_put_6 := dk_seg dksX0_put_5 24 rfl rfl
theorem dX0_put_0 : decode cX0_put 0 = .ok (.aload_n 0, 1) := dk_42 (dk_at dksX0_put_0 0 rfl rfl)
theorem dX0_put_1 : decode cX0_put 1 = .ok (.iload_n 1, 1) := dk_27 (dk_at dksX0_put_0 1 rfl rfl)
theorem dX0_put_2 : decode cX0_put 2 = .ok (.invokevirtual 143, 3) := dk_182 0 143 (dk_at dksX0_put_0 2 rfl rfl)
theorem dX0_put_5 : decode cX0_put 5 = .ok (.ifCond .ne 10, 3) := dk_154 0 10 (dk_at dksX0_put_0 5 rfl rfl)
theorem dX0_put_8 : decode cX0_put 8 = .ok (.aload_n 0, 1) := dk_42 (dk_at dksX0_put_0 8 rfl rfl)
theorem dX0_put_9 : decode cX0_put 9 = .ok (.bipush 7, 2) := dk_16 7 (dk_at dksX0_put_0 9 rfl rfl)
theorem dX0_put_11 : decode cX0_put 11 = .ok (.invokevirtual 47, 3) := dk_182 0 47 (dk_at dksX0_put_0 11 rfl rfl)
theorem dX0_put_14 : decode cX0_put 14 = .ok (.ireturn, 1) := dk_172 (dk_at dksX0_put_0 14 rfl rfl)
theorem dX0_put_15 : decode cX0_put 15 = .ok (.aload_n 0, 1) := dk_42 (dk_at dksX0_put_0 15 rfl rfl)
theorem dX0_put_16 : decode cX0_put 16 = .ok (.getfield 18, 3) := dk_180 0 18 (dk_at dksX0_put_0 16 rfl rfl)
theorem dX0_put_19 : decode cX0_put 19 = .ok (.iload_n 1, 1) := dk_27 (dk_at dksX0_put_0 19 rfl rfl)
theorem dX0_put_20 : decode cX0_put 20 = .ok (.aaload, 1) := dk_50 (dk_at dksX0_put_0 20 rfl rfl)
theorem dX0_put_21 : decode cX0_put 21 = .ok (.getfield 96, 3) := dk_180 0 96 (dk_at dksX0_put_0 21 rfl rfl)
theorem dX0_put_24 : decode cX0_put 24 = .ok (.astore 7, 2) := dk_58 7 (dk_at dksX0_put_1 0 rfl rfl)
theorem dX0_put_26 : decode cX0_put 26 = .ok (.aload_n 0, 1) := dk_42 (dk_at dksX0_put_1 2 rfl rfl)
theorem dX0_put_27 : decode cX0_put 27 = .ok (.getfield 18, 3) := dk_180 0 18 (dk_at dksX0_put_1 3 rfl rfl)
theorem dX0_put_30 : decode cX0_put 30 = .ok (.iload_n 1, 1) := dk_27 (dk_at dksX0_put_1 6 rfl rfl)
theorem dX0_put_31 : decode cX0_put 31 = .ok (.aaload, 1) := dk_50 (dk_at dksX0_put_1 7 rfl rfl)
theorem dX0_put_32 : decode cX0_put 32 = .ok (.getfield 101, 3) := dk_180 0 101 (dk_at dksX0_put_1 8 rfl rfl)
theorem dX0_put_35 : decode cX0_put 35 = .ok (.astore 8, 2) := dk_58 8 (dk_at dksX0_put_1 11 rfl rfl)
theorem dX0_put_37 : decode cX0_put 37 = .ok (.aload_n 0, 1) := dk_42 (dk_at dksX0_put_1 13 rfl rfl)
theorem dX0_put_38 : decode cX0_put 38 = .ok (.iload_n 2, 1) := dk_28 (dk_at dksX0_put_1 14 rfl rfl)
theorem dX0_put_39 : decode cX0_put 39 = .ok (.iload_n 3, 1) := dk_29 (dk_at dksX0_put_1 15 rfl rfl)
theorem dX0_put_40 : decode cX0_put 40 = .ok (.iload 4, 2) := dk_21 4 (dk_at dksX0_put_1 16 rfl rfl)
theorem dX0_put_42 : decode cX0_put 42 = .ok (.invokevirtual 184, 3) := dk_182 0 184 (dk_at dksX0_put_1 18 rfl rfl)
theorem dX0_put_45 : decode cX0_put 45 = .ok (.aload 8, 2) := dk_25 8 (dk_at dksX0_put_1 21 rfl rfl)
theorem dX0_put_47 : decode cX0_put 47 = .ok (.instanceof 58, 3) := dk_193 0 58 (dk_at dksX0_put_2 0 rfl rfl)
theorem dX0_put_50 : decode cX0_put 50 = .ok (.ifCond .eq 50, 3) := dk_153 0 50 (dk_at dksX0_put_2 3 rfl rfl)
theorem dX0_put_53 : decode cX0_put 53 = .ok (.aload 7, 2) := dk_25 7 (dk_at dksX0_put_2 6 rfl rfl)
theorem dX0_put_55 : decode cX0_put 55 = .ok (.iconst 0, 1) := dk_3 (dk_at dksX0_put_2 8 rfl rfl)
theorem dX0_put_56 : decode cX0_put 56 = .ok (.iload_n 2, 1) := dk_28 (dk_at dksX0_put_2 9 rfl rfl)
theorem dX0_put_57 : decode cX0_put 57 = .ok (.invokevirtual 180, 3) := dk_182 0 180 (dk_at dksX0_put_2 10 rfl rfl)
theorem dX0_put_60 : decode cX0_put 60 = .ok (.ifCond .ne 9, 3) := dk_154 0 9 (dk_at dksX0_put_2 13 rfl rfl)
theorem dX0_put_63 : decode cX0_put 63 = .ok (.aload_n 0, 1) := dk_42 (dk_at dksX0_put_2 16 rfl rfl)
theorem dX0_put_64 : decode cX0_put 64 = .ok (.iconst 0, 1) := dk_3 (dk_at dksX0_put_2 17 rfl rfl)
theorem dX0_put_65 : decode cX0_put 65 = .ok (.invokevirtual 174, 3) := dk_182 0 174 (dk_at dksX0_put_2 18 rfl rfl)
theorem dX0_put_68 : decode cX0_put 68 = .ok (.ireturn, 1) := dk_172 (dk_at dksX0_put_2 21 rfl rfl)
theorem dX0_put_69 : decode cX0_put 69 = .ok (.aload 8, 2) := dk_25 8 (dk_at dksX0_put_2 22 rfl rfl)
theorem dX0_put_71 : decode cX0_put 71 = .ok (.checkcast 58, 3) := dk_192 0 58 (dk_at dksX0_put_3 0 rfl rfl)
theorem dX0_put_74 : decode cX0_put 74 = .ok (.iload_n 2, 1) := dk_28 (dk_at dksX0_put_3 3 rfl rfl)
theorem dX0_put_75 : decode cX0_put 75 = .ok (.aload 7, 2) := dk_25 7 (dk_at dksX0_put_3 4 rfl rfl)
theorem dX0_put_77 : decode cX0_put 77 = .ok (.getfield 105, 3) := dk_180 0 105 (dk_at dksX0_put_3 6 rfl rfl)
theorem dX0_put_80 : decode cX0_put 80 = .ok (.iconst 0, 1) := dk_3 (dk_at dksX0_put_3 9 rfl rfl)
theorem dX0_put_81 : decode cX0_put 81 = .ok (.iaload, 1) := dk_46 (dk_at dksX0_put_3 10 rfl rfl)
theorem dX0_put_82 : decode cX0_put 82 = .ok (.isub, 1) := dk_100 (dk_at dksX0_put_3 11 rfl rfl)
theorem dX0_put_83 : decode cX0_put 83 = .ok (.aaload, 1) := dk_50 (dk_at dksX0_put_3 12 rfl rfl)
theorem dX0_put_84 : decode cX0_put 84 = .ok (.aload 7, 2) := dk_25 7 (dk_at dksX0_put_3 13 rfl rfl)
theorem dX0_put_86 : decode cX0_put 86 = .ok (.iload_n 3, 1) := dk_29 (dk_at dksX0_put_3 15 rfl rfl)
theorem dX0_put_87 : decode cX0_put 87 = .ok (.invokestatic 188, 3) := dk_184 0 188 (dk_at dksX0_put_3 16 rfl rfl)
theorem dX0_put_90 : decode cX0_put 90 = .ok (.lload 5, 2) := dk_22 5 (dk_at dksX0_put_3 19 rfl rfl)
theorem dX0_put_92 : decode cX0_put 92 = .ok (.l2i, 1) := dk_136 (dk_at dksX0_put_3 21 rfl rfl)
theorem dX0_put_93 : decode cX0_put 93 = .ok (.iastore, 1) := dk_79 (dk_at dksX0_put_3 22 rfl rfl)
theorem dX0_put_94 : decode cX0_put 94 = .ok (.aload_n 0, 1) := dk_42 (dk_at dksX0_put_3 23 rfl rfl)
theorem dX0_put_95 : decode cX0_put 95 = .ok (.iconst 1, 1) := dk_4 (dk_at dksX0_put_4 0 rfl rfl)
theorem dX0_put_96 : decode cX0_put 96 = .ok (.invokevirtual 114, 3) := dk_182 0 114 (dk_at dksX0_put_4 1 rfl rfl)
theorem dX0_put_99 : decode cX0_put 99 = .ok (.ireturn, 1) := dk_172 (dk_at dksX0_put_4 4 rfl rfl)
theorem dX0_put_100 : decode cX0_put 100 = .ok (.aload 7, 2) := dk_25 7 (dk_at dksX0_put_4 5 rfl rfl)
theorem dX0_put_102 : decode cX0_put 102 = .ok (.aload_n 0, 1) := dk_42 (dk_at dksX0_put_4 7 rfl rfl)
theorem dX0_put_103 : decode cX0_put 103 = .ok (.getfield 34, 3) := dk_180 0 34 (dk_at dksX0_put_4 8 rfl rfl)
theorem dX0_put_106 : decode cX0_put 106 = .ok (.invokevirtual 171, 3) := dk_182 0 171 (dk_at dksX0_put_4 11 rfl rfl)
theorem dX0_put_109 : decode cX0_put 109 = .ok (.istore 9, 2) := dk_54 9 (dk_at dksX0_put_4 14 rfl rfl)
theorem dX0_put_111 : decode cX0_put 111 = .ok (.iload 9, 2) := dk_21 9 (dk_at dksX0_put_4 16 rfl rfl)
theorem dX0_put_113 : decode cX0_put 113 = .ok (.iconst (-1), 1) := dk_2 (dk_at dksX0_put_4 18 rfl rfl)
theorem dX0_put_114 : decode cX0_put 114 = .ok (.if_icmp .eq 10, 3) := dk_159 0 10 (dk_at dksX0_put_4 19 rfl rfl)
theorem dX0_put_117 : decode cX0_put 117 = .ok (.aload_n 0, 1) := dk_42 (dk_at dksX0_put_4 22 rfl rfl)
theorem dX0_put_118 : decode cX0_put 118 = .ok (.iload 9, 2) := dk_21 9 (dk_at dksX0_put_5 0 rfl rfl)
theorem dX0_put_120 : decode cX0_put 120 = .ok (.invokevirtual 174, 3) := dk_182 0 174 (dk_at dksX0_put_5 2 rfl rfl)
theorem dX0_put_123 : decode cX0_put 123 = .ok (.ireturn, 1) := dk_172 (dk_at dksX0_put_5 5 rfl rfl)
theorem dX0_put_124 : decode cX0_put 124 = .ok (.aload 8, 2) := dk_25 8 (dk_at dksX0_put_5 6 rfl rfl)
theorem dX0_put_126 : decode cX0_put 126 = .ok (.aload 7, 2) := dk_25 7 (dk_at dksX0_put_5 8 rfl rfl)
theorem dX0_put_128 : decode cX0_put 128 = .ok (.aload_n 0, 1) := dk_42 (dk_at dksX0_put_5 10 rfl rfl)
theorem dX0_put_129 : decode cX0_put 129 = .ok (.getfield 34, 3) := dk_180 0 34 (dk_at dksX0_put_5 11 rfl rfl)
theorem dX0_put_132 : decode cX0_put 132 = .ok (.invokevirtual 160, 3) := dk_182 0 160 (dk_at dksX0_put_5 14 rfl rfl)
theorem dX0_put_135 : decode cX0_put 135 = .ok (.lload 5, 2) := dk_22 5 (dk_at dksX0_put_5 17 rfl rfl)
theorem dX0_put_137 : decode cX0_put 137 = .ok (.invokestatic 92, 3) := dk_184 0 92 (dk_at dksX0_put_5 19 rfl rfl)
theorem dX0_put_140 : decode cX0_put 140 = .ok (.aload_n 0, 1) := dk_42 (dk_at dksX0_put_5 22 rfl rfl)
theorem dX0_put_141 : decode cX0_put 141 = .ok (.iconst 1, 1) := dk_4 (dk_at dksX0_put_5 23 rfl rfl)
theorem dX0_put_142 : decode cX0_put 142 = .ok (.invokevirtual 114, 3) := dk_182 0 114 (dk_at dksX0_put_6 0 rfl rfl)
theorem dX0_put_145 : decode cX0_put 145 = .ok (.ireturn, 1) := dk_172 (dk_at dksX0_put_6 3 rfl rfl)
theorem dX0_put_146 : decode cX0_put 146 = .ok (.astore 9, 2) := dk_58 9 (dk_at dksX0_put_6 4 rfl rfl)
theorem dX0_put_148 : decode cX0_put 148 = .ok (.aload_n 0, 1) := dk_42 (dk_at dksX0_put_6 6 rfl rfl)
theorem dX0_put_149 : decode cX0_put 149 = .ok (.iconst 1, 1) := dk_4 (dk_at dksX0_put_6 7 rfl rfl)
theorem dX0_put_150 : decode cX0_put 150 = .ok (.invokevirtual 47, 3) := dk_182 0 47 (dk_at dksX0_put_6 8 rfl rfl)
theorem dX0_put_153 : decode cX0_put 153 = .ok (.ireturn, 1) := dk_172 (dk_at dksX0_put_6 11 rfl rfl)
theorem dX0_put_154 : decode cX0_put 154 = .ok (.astore 9, 2) := dk_58 9 (dk_at dksX0_put_6 12 rfl rfl)
theorem dX0_put_156 : decode cX0_put 156 = .ok (.aload_n 0, 1) := dk_42 (dk_at dksX0_put_6 14 rfl rfl)
theorem dX0_put_157 : decode cX0_put 157 = .ok (.iconst 1, 1) := dk_4 (dk_at dksX0_put_6 15 rfl rfl)
theorem dX0_put_158 : decode cX0_put 158 = .ok (.invokevirtual 174, 3) := dk_182 0 174 (dk_at dksX0_put_6 16 rfl rfl)
theorem dX0_put_161 : decode cX0_put 161 = .ok (.ireturn, 1) := dk_172 (dk_at dksX0_put_6 19 rfl rfl)
abbrev cX0_put_2 : ByteArray := prog_1_method_10_code
def yX0_put_2 : MethodName := ⟨RX0, "put", "(Ljava/lang/Object;IJ)V"⟩
def dkwX0_put_2_2 : List UInt8 := [192, 0, 57, 27, 32, 80, 167, 0, 17, 42, 192, 0, 66, 27, 187, 0, 60, 89, 32, 183, 0, 72, 83, 177]
abbrev dktX0_put_2_2 : List UInt8 := dkwX0_put_2_2 ++ []
def dkwX0_put_2_1 : List UInt8 := [153, 0, 14, 42, 192, 0, 56, 27, 32, 136, 79, 167, 0, 34, 42, 193, 0, 57, 153, 0, 13, 42]
abbrev dktX0_put_2_1 : List UInt8 := dkwX0_put_2_1 ++ dktX0_put_2_2
def dkwX0_put_2_0 : List UInt8 := [42, 193, 0, 54, 153, 0, 15, 42, 192, 0, 54, 27, 32, 136, 145, 84, 167, 0, 52, 42, 193, 0, 56]
abbrev dktX0_put_2_0 : List UInt8 := dkwX0_put_2_0 ++ dktX0_put_2_1
theorem dksX0_put_2_0 : cX0_put_2.data.toList.drop 0 = dktX0_put_2_0 := by decide +kernel
theorem dksX0_put_2_1 : cX0_put_2.data.toList.drop 23 = dktX0_put_2_1 := dk_seg dksX0_put_2_0 23 rfl rfl
theorem dksX0_put_2_2 : cX0_put_2.data.toList.drop 45 = dktX0_put_2_2 := dk_seg dksX0_put_2_1 22 rfl rfl
theorem dX0_put_2_0 : decode cX0_put_2 0 = .ok (.aload_n 0, 1) := dk_42 (dk_at dksX0_put_2_0 0 rfl rfl)
theorem dX0_put_2_1 : decode cX0_put_2 1 = .ok (.instanceof 54, 3) := dk_193 0 54 (dk_at dksX0_put_2_0 1 rfl rfl)
theorem dX0_put_2_4 : decode cX0_put_2 4 = .ok (.ifCond .eq 15, 3) := dk_153 0 15 (dk_at dksX0_put_2_0 4 rfl rfl)
theorem dX0_put_2_7 : decode cX0_put_2 7 = .ok (.aload_n 0, 1) := dk_42 (dk_at dksX0_put_2_0 7 rfl rfl)
theorem dX0_put_2_8 : decode cX0_put_2 8 = .ok (.checkcast 54, 3) := dk_192 0 54 (dk_at dksX0_put_2_0 8 rfl rfl)
theorem dX0_put_2_11 : decode cX0_put_2 11 = .ok (.iload_n 1, 1) := dk_27 (dk_at dksX0_put_2_0 11 rfl rfl)
theorem dX0_put_2_12 : decode cX0_put_2 12 = .ok (.lload_n 2, 1) := dk_32 (dk_at dksX0_put_2_0 12 rfl rfl)
theorem dX0_put_2_13 : decode cX0_put_2 13 = .ok (.l2i, 1) := dk_136 (dk_at dksX0_put_2_0 13 rfl rfl)
theorem dX0_put_2_14 : decode cX0_put_2 14 = .ok (.i2b, 1) := dk_145 (dk_at dksX0_put_2_0 14 rfl rfl)
theorem dX0_put_2_15 : decode cX0_put_2 15 = .ok (.bastore, 1) := dk_84 (dk_at dksX0_put_2_0 15 rfl rfl)
theorem dX0_put_2_16 : decode cX0_put_2 16 = .ok (.goto 52, 3) := dk_167 0 52 (dk_at dksX0_put_2_0 16 rfl rfl)
theorem dX0_put_2_19 : decode cX0_put_2 19 = .ok (.aload_n 0, 1) := dk_42 (dk_at dksX0_put_2_0 19 rfl rfl)
theorem dX0_put_2_20 : decode cX0_put_2 20 = .ok (.instanceof 56, 3) := dk_193 0 56 (dk_at dksX0_put_2_0 20 rfl rfl)
theorem dX0_put_2_23 : decode cX0_put_2 23 = .ok (.ifCond .eq 14, 3) := dk_153 0 14 (dk_at dksX0_put_2_1 0 rfl rfl)
theorem dX0_put_2_26 : decode cX0_put_2 26 = .ok (.aload_n 0, 1) := dk_42 (dk_at dksX0_put_2_1 3 rfl rfl)
theorem dX0_put_2_27 : decode cX0_put_2 27 = .ok (.checkcast 56, 3) := dk_192 0 56 (dk_at dksX0_put_2_1 4 rfl rfl)
theorem dX0_put_2_30 : decode cX0_put_2 30 = .ok (.iload_n 1, 1) := dk_27 (dk_at dksX0_put_2_1 7 rfl rfl)
theorem dX0_put_2_31 : decode cX0_put_2 31 = .ok (.lload_n 2, 1) := dk_32 (dk_at dksX0_put_2_1 8 rfl rfl)
theorem dX0_put_2_32 : decode cX0_put_2 32 = .ok (.l2i, 1) := dk_136 (dk_at dksX0_put_2_1 9 rfl rfl)
theorem dX0_put_2_33 : decode cX0_put_2 33 = .ok (.iastore, 1) := dk_79 (dk_at dksX0_put_2_1 10 rfl rfl)
theorem dX0_put_2_34 : decode cX0_put_2 34 = .ok (.goto 34, 3) := dk_167 0 34 (dk_at dksX0_put_2_1 11 rfl rfl)
theorem dX0_put_2_37 : decode cX0_put_2 37 = .ok (.aload_n 0, 1) := dk_42 (dk_at dksX0_put_2_1 14 rfl rfl)
theorem dX0_put_2_38 : decode cX0_put_2 38 = .ok (.instanceof 57, 3) := dk_193 0 57 (dk_at dksX0_put_2_1 15 rfl rfl)
theorem dX0_put_2_41 : decode cX0_put_2 41 = .ok (.ifCond .eq 13, 3) := dk_153 0 13 (dk_at dksX0_put_2_1 18 rfl rfl)
theorem dX0_put_2_44 : decode cX0_put_2 44 = .ok (.aload_n 0, 1) := dk_42 (dk_at dksX0_put_2_1 21 rfl rfl)
theorem dX0_put_2_45 : decode cX0_put_2 45 = .ok (.checkcast 57, 3) := dk_192 0 57 (dk_at dksX0_put_2_2 0 rfl rfl)
theorem dX0_put_2_48 : decode cX0_put_2 48 = .ok (.iload_n 1, 1) := dk_27 (dk_at dksX0_put_2_2 3 rfl rfl)
theorem dX0_put_2_49 : decode cX0_put_2 49 = .ok (.lload_n 2, 1) := dk_32 (dk_at dksX0_put_2_2 4 rfl rfl)
theorem dX0_put_2_50 : decode cX0_put_2 50 = .ok (.lastore, 1) := dk_80 (dk_at dksX0_put_2_2 5 rfl rfl)
theorem dX0_put_2_51 : decode cX0_put_2 51 = .ok (.goto 17, 3) := dk_167 0 17 (dk_at dksX0_put_2_2 6 rfl rfl)
theorem dX0_put_2_54 : decode cX0_put_2 54 = .ok (.aload_n 0, 1) := dk_42 (dk_at dksX0_put_2_2 9 rfl rfl)
theorem dX0_put_2_55 : decode cX0_put_2 55 = .ok (.checkcast 66, 3) := dk_192 0 66 (dk_at dksX0_put_2_2 10 rfl rfl)
theorem dX0_put_2_58 : decode cX0_put_2 58 = .ok (.iload_n 1, 1) := dk_27 (dk_at dksX0_put_2_2 13 rfl rfl)
theorem dX0_put_2_59 : decode cX0_put_2 59 = .ok (.new 60, 3) := dk_187 0 60 (dk_at dksX0_put_2_2 14 rfl rfl)
theorem dX0_put_2_62 : decode cX0_put_2 62 = .ok (.dup, 1) := dk_89 (dk_at dksX0_put_2_2 17 rfl rfl)
theorem dX0_put_2_63 : decode cX0_put_2 63 = .ok (.lload_n 2, 1) := dk_32 (dk_at dksX0_put_2_2 18 rfl rfl)
theorem dX0_put_2_64 : decode cX0_put_2 64 = .ok (.invokespecial 72, 3) := dk_183 0 72 (dk_at dksX0_put_2_2 19 rfl rfl)
theorem dX0_put_2_67 : decode cX0_put_2 67 = .ok (.aastore, 1) := dk_83 (dk_at dksX0_put_2_2 22 rfl rfl)
theorem dX0_put_2_68 : decode cX0_put_2 68 = .ok (.return_, 1) := dk_177 (dk_at dksX0_put_2_2 23 rfl rfl)
abbrev cX0_empty : ByteArray := prog_1_method_34_code
def yX0_empty : MethodName := ⟨RX0, "empty", "(IIII)I"⟩
def dkwX0_empty_4 : List UInt8 := [58, 5, 42, 5, 182, 0, 47, 172]
abbrev dktX0_empty_4 : List UInt8 := dkwX0_empty_4 ++ []
def dkwX0_empty_3 : List UInt8 := [180, 0, 18, 27, 50, 180, 0, 96, 42, 180, 0, 34, 182, 0, 160, 1, 83, 42, 4, 182, 0, 114, 172]
abbrev dktX0_empty_3 : List UInt8 := dkwX0_empty_3 ++ dktX0_empty_4
def dkwX0_empty_2 : List UInt8 := [180, 0, 34, 182, 0, 171, 54, 6, 21, 6, 2, 159, 0, 10, 42, 21, 6, 182, 0, 174, 172, 25, 5, 42]
abbrev dktX0_empty_2 : List UInt8 := dkwX0_empty_2 ++ dktX0_empty_3
def dkwX0_empty_1 : List UInt8 := [180, 0, 18, 27, 50, 180, 0, 101, 192, 0, 66, 58, 5, 42, 180, 0, 18, 27, 50, 180, 0, 96, 42]
abbrev dktX0_empty_1 : List UInt8 := dkwX0_empty_1 ++ dktX0_empty_2
def dkwX0_empty_0 : List UInt8 := [42, 27, 182, 0, 143, 154, 0, 10, 42, 16, 7, 182, 0, 47, 172, 42, 28, 29, 21, 4, 182, 0, 184, 42]
abbrev dktX0_empty_0 : List UInt8 := dkwX0_empty_0 ++ dktX0_empty_1
theorem dksX0_empty_0 : cX0_empty.data.toList.drop 0 = dktX0_empty_0 := by decide +kernel
theorem dksX0_empty_1 : cX0_empty.data.toList.drop 24 = dktX0_empty_1 := dk_seg dksX0_empty_0 24 rfl rfl
theorem dksX0_empty_2 : cX0_empty.data.toList.drop 47 = dktX0_empty_2 := dk_seg dksX0_empty_1 23 rfl rfl
theorem dksX0_empty_3 : cX0_empty.data.toList.drop 71 = dktX0_empty_3 := dk_seg dksX0_empty_2 24 rfl rfl
theorem dksX0_empty_4 : cX0_empty.data.toList.drop 94 = dktX0_empty_4 := dk_seg dksX0_empty_3 23 rfl rfl
theorem dX0_empty_0 : decode cX0_empty 0 = .ok (.aload_n 0, 1) := dk_42 (dk_at dksX0_empty_0 0 rfl rfl)
theorem dX0_empty_1 : decode cX0_empty 1 = .ok (.iload_n 1, 1) := dk_27 (dk_at dksX0_empty_0 1 rfl rfl)
theorem dX0_empty_2 : decode cX0_empty 2 = .ok (.invokevirtual 143, 3) := dk_182 0 143 (dk_at dksX0_empty_0 2 rfl rfl)
theorem dX0_empty_5 : decode cX0_empty 5 = .ok (.ifCond .ne 10, 3) := dk_154 0 10 (dk_at dksX0_empty_0 5 rfl rfl)
theorem dX0_empty_8 : decode cX0_empty 8 = .ok (.aload_n 0, 1) := dk_42 (dk_at dksX0_empty_0 8 rfl rfl)
theorem dX0_empty_9 : decode cX0_empty 9 = .ok (.bipush 7, 2) := dk_16 7 (dk_at dksX0_empty_0 9 rfl rfl)
theorem dX0_empty_11 : decode cX0_empty 11 = .ok (.invokevirtual 47, 3) := dk_182 0 47 (dk_at dksX0_empty_0 11 rfl rfl)
theorem dX0_empty_14 : decode cX0_empty 14 = .ok (.ireturn, 1) := dk_172 (dk_at dksX0_empty_0 14 rfl rfl)
theorem dX0_empty_15 : decode cX0_empty 15 = .ok (.aload_n 0, 1) := dk_42 (dk_at dksX0_empty_0 15 rfl rfl)
theorem dX0_empty_16 : decode cX0_empty 16 = .ok (.iload_n 2, 1) := dk_28 (dk_at dksX0_empty_0 16 rfl rfl)
theorem dX0_empty_17 : decode cX0_empty 17 = .ok (.iload_n 3, 1) := dk_29 (dk_at dksX0_empty_0 17 rfl rfl)
theorem dX0_empty_18 : decode cX0_empty 18 = .ok (.iload 4, 2) := dk_21 4 (dk_at dksX0_empty_0 18 rfl rfl)
theorem dX0_empty_20 : decode cX0_empty 20 = .ok (.invokevirtual 184, 3) := dk_182 0 184 (dk_at dksX0_empty_0 20 rfl rfl)
theorem dX0_empty_23 : decode cX0_empty 23 = .ok (.aload_n 0, 1) := dk_42 (dk_at dksX0_empty_0 23 rfl rfl)
theorem dX0_empty_24 : decode cX0_empty 24 = .ok (.getfield 18, 3) := dk_180 0 18 (dk_at dksX0_empty_1 0 rfl rfl)
theorem dX0_empty_27 : decode cX0_empty 27 = .ok (.iload_n 1, 1) := dk_27 (dk_at dksX0_empty_1 3 rfl rfl)
theorem dX0_empty_28 : decode cX0_empty 28 = .ok (.aaload, 1) := dk_50 (dk_at dksX0_empty_1 4 rfl rfl)
theorem dX0_empty_29 : decode cX0_empty 29 = .ok (.getfield 101, 3) := dk_180 0 101 (dk_at dksX0_empty_1 5 rfl rfl)
theorem dX0_empty_32 : decode cX0_empty 32 = .ok (.checkcast 66, 3) := dk_192 0 66 (dk_at dksX0_empty_1 8 rfl rfl)
theorem dX0_empty_35 : decode cX0_empty 35 = .ok (.astore 5, 2) := dk_58 5 (dk_at dksX0_empty_1 11 rfl rfl)
theorem dX0_empty_37 : decode cX0_empty 37 = .ok (.aload_n 0, 1) := dk_42 (dk_at dksX0_empty_1 13 rfl rfl)
theorem dX0_empty_38 : decode cX0_empty 38 = .ok (.getfield 18, 3) := dk_180 0 18 (dk_at dksX0_empty_1 14 rfl rfl)
theorem dX0_empty_41 : decode cX0_empty 41 = .ok (.iload_n 1, 1) := dk_27 (dk_at dksX0_empty_1 17 rfl rfl)
theorem dX0_empty_42 : decode cX0_empty 42 = .ok (.aaload, 1) := dk_50 (dk_at dksX0_empty_1 18 rfl rfl)
theorem dX0_empty_43 : decode cX0_empty 43 = .ok (.getfield 96, 3) := dk_180 0 96 (dk_at dksX0_empty_1 19 rfl rfl)
theorem dX0_empty_46 : decode cX0_empty 46 = .ok (.aload_n 0, 1) := dk_42 (dk_at dksX0_empty_1 22 rfl rfl)
theorem dX0_empty_47 : decode cX0_empty 47 = .ok (.getfield 34, 3) := dk_180 0 34 (dk_at dksX0_empty_2 0 rfl rfl)
theorem dX0_empty_50 : decode cX0_empty 50 = .ok (.invokevirtual 171, 3) := dk_182 0 171 (dk_at dksX0_empty_2 3 rfl rfl)
theorem dX0_empty_53 : decode cX0_empty 53 = .ok (.istore 6, 2) := dk_54 6 (dk_at dksX0_empty_2 6 rfl rfl)
theorem dX0_empty_55 : decode cX0_empty 55 = .ok (.iload 6, 2) := dk_21 6 (dk_at dksX0_empty_2 8 rfl rfl)
theorem dX0_empty_57 : decode cX0_empty 57 = .ok (.iconst (-1), 1) := dk_2 (dk_at dksX0_empty_2 10 rfl rfl)
theorem dX0_empty_58 : decode cX0_empty 58 = .ok (.if_icmp .eq 10, 3) := dk_159 0 10 (dk_at dksX0_empty_2 11 rfl rfl)
theorem dX0_empty_61 : decode cX0_empty 61 = .ok (.aload_n 0, 1) := dk_42 (dk_at dksX0_empty_2 14 rfl rfl)
theorem dX0_empty_62 : decode cX0_empty 62 = .ok (.iload 6, 2) := dk_21 6 (dk_at dksX0_empty_2 15 rfl rfl)
theorem dX0_empty_64 : decode cX0_empty 64 = .ok (.invokevirtual 174, 3) := dk_182 0 174 (dk_at dksX0_empty_2 17 rfl rfl)
theorem dX0_empty_67 : decode cX0_empty 67 = .ok (.ireturn, 1) := dk_172 (dk_at dksX0_empty_2 20 rfl rfl)
theorem dX0_empty_68 : decode cX0_empty 68 = .ok (.aload 5, 2) := dk_25 5 (dk_at dksX0_empty_2 21 rfl rfl)
theorem dX0_empty_70 : decode cX0_empty 70 = .ok (.aload_n 0, 1) := dk_42 (dk_at dksX0_empty_2 23 rfl rfl)
theorem dX0_empty_71 : decode cX0_empty 71 = .ok (.getfield 18, 3) := dk_180 0 18 (dk_at dksX0_empty_3 0 rfl rfl)
theorem dX0_empty_74 : decode cX0_empty 74 = .ok (.iload_n 1, 1) := dk_27 (dk_at dksX0_empty_3 3 rfl rfl)
theorem dX0_empty_75 : decode cX0_empty 75 = .ok (.aaload, 1) := dk_50 (dk_at dksX0_empty_3 4 rfl rfl)
theorem dX0_empty_76 : decode cX0_empty 76 = .ok (.getfield 96, 3) := dk_180 0 96 (dk_at dksX0_empty_3 5 rfl rfl)
theorem dX0_empty_79 : decode cX0_empty 79 = .ok (.aload_n 0, 1) := dk_42 (dk_at dksX0_empty_3 8 rfl rfl)
theorem dX0_empty_80 : decode cX0_empty 80 = .ok (.getfield 34, 3) := dk_180 0 34 (dk_at dksX0_empty_3 9 rfl rfl)
theorem dX0_empty_83 : decode cX0_empty 83 = .ok (.invokevirtual 160, 3) := dk_182 0 160 (dk_at dksX0_empty_3 12 rfl rfl)
theorem dX0_empty_86 : decode cX0_empty 86 = .ok (.aconst_null, 1) := dk_1 (dk_at dksX0_empty_3 15 rfl rfl)
theorem dX0_empty_87 : decode cX0_empty 87 = .ok (.aastore, 1) := dk_83 (dk_at dksX0_empty_3 16 rfl rfl)
theorem dX0_empty_88 : decode cX0_empty 88 = .ok (.aload_n 0, 1) := dk_42 (dk_at dksX0_empty_3 17 rfl rfl)
theorem dX0_empty_89 : decode cX0_empty 89 = .ok (.iconst 1, 1) := dk_4 (dk_at dksX0_empty_3 18 rfl rfl)
theorem dX0_empty_90 : decode cX0_empty 90 = .ok (.invokevirtual 114, 3) := dk_182 0 114 (dk_at dksX0_empty_3 19 rfl rfl)
theorem dX0_empty_93 : decode cX0_empty 93 = .ok (.ireturn, 1) := dk_172 (dk_at dksX0_empty_3 22 rfl rfl)
theorem dX0_empty_94 : decode cX0_empty 94 = .ok (.astore 5, 2) := dk_58 5 (dk_at dksX0_empty_4 0 rfl rfl)
theorem dX0_empty_96 : decode cX0_empty 96 = .ok (.aload_n 0, 1) := dk_42 (dk_at dksX0_empty_4 2 rfl rfl)
theorem dX0_empty_97 : decode cX0_empty 97 = .ok (.iconst 2, 1) := dk_5 (dk_at dksX0_empty_4 3 rfl rfl)
theorem dX0_empty_98 : decode cX0_empty 98 = .ok (.invokevirtual 47, 3) := dk_182 0 47 (dk_at dksX0_empty_4 4 rfl rfl)
theorem dX0_empty_101 : decode cX0_empty 101 = .ok (.ireturn, 1) := dk_172 (dk_at dksX0_empty_4 7 rfl rfl)
abbrev cX0_pair : ByteArray := prog_1_method_35_code
def yX0_pair : MethodName := ⟨RX0, "pair", "(IIIJ)I"⟩
def dkwX0_pair_3 : List UInt8 := [180, 0, 192, 4, 96, 90, 181, 0, 192, 182, 0, 114, 172]
abbrev dktX0_pair_3 : List UInt8 := dkwX0_pair_3 ++ []
def dkwX0_pair_2 : List UInt8 := [6, 42, 180, 0, 192, 104, 5, 96, 29, 79, 42, 180, 0, 30, 42, 180, 0, 192, 22, 4, 80, 42, 42, 89]
abbrev dktX0_pair_2 : List UInt8 := dkwX0_pair_2 ++ dktX0_pair_3
def dkwX0_pair_1 : List UInt8 := [180, 0, 192, 104, 27, 79, 42, 180, 0, 26, 6, 42, 180, 0, 192, 104, 4, 96, 28, 79, 42, 180, 0, 26]
abbrev dktX0_pair_1 : List UInt8 := dkwX0_pair_1 ++ dktX0_pair_2
def dkwX0_pair_0 : List UInt8 := [42, 180, 0, 192, 16, 30, 160, 0, 10, 42, 16, 8, 182, 0, 47, 172, 42, 180, 0, 26, 6, 42]
abbrev dktX0_pair_0 : List UInt8 := dkwX0_pair_0 ++ dktX0_pair_1
theorem dksX0_pair_0 : cX0_pair.data.toList.drop 0 = dktX0_pair_0 := by decide +kernel
theorem dksX0_pair_1 : cX0_pair.data.toList.drop 22 = dktX0_pair_1 := dk_seg dksX0_pair_0 22 rfl rfl
theorem dksX0_pair_2 : cX0_pair.data.toList.drop 46 = dktX0_pair_2 := dk_seg dksX0_pair_1 24 rfl rfl
theorem dksX0_pair_3 : cX0_pair.data.toList.drop 70 = dktX0_pair_3 := dk_seg dksX0_pair_2 24 rfl rfl
theorem dX0_pair_0 : decode cX0_pair 0 = .ok (.aload_n 0, 1) := dk_42 (dk_at dksX0_pair_0 0 rfl rfl)
theorem dX0_pair_1 : decode cX0_pair 1 = .ok (.getfield 192, 3) := dk_180 0 192 (dk_at dksX0_pair_0 1 rfl rfl)
theorem dX0_pair_4 : decode cX0_pair 4 = .ok (.bipush 30, 2) := dk_16 30 (dk_at dksX0_pair_0 4 rfl rfl)
theorem dX0_pair_6 : decode cX0_pair 6 = .ok (.if_icmp .ne 10, 3) := dk_160 0 10 (dk_at dksX0_pair_0 6 rfl rfl)
theorem dX0_pair_9 : decode cX0_pair 9 = .ok (.aload_n 0, 1) := dk_42 (dk_at dksX0_pair_0 9 rfl rfl)
theorem dX0_pair_10 : decode cX0_pair 10 = .ok (.bipush 8, 2) := dk_16 8 (dk_at dksX0_pair_0 10 rfl rfl)
theorem dX0_pair_12 : decode cX0_pair 12 = .ok (.invokevirtual 47, 3) := dk_182 0 47 (dk_at dksX0_pair_0 12 rfl rfl)
theorem dX0_pair_15 : decode cX0_pair 15 = .ok (.ireturn, 1) := dk_172 (dk_at dksX0_pair_0 15 rfl rfl)
theorem dX0_pair_16 : decode cX0_pair 16 = .ok (.aload_n 0, 1) := dk_42 (dk_at dksX0_pair_0 16 rfl rfl)
theorem dX0_pair_17 : decode cX0_pair 17 = .ok (.getfield 26, 3) := dk_180 0 26 (dk_at dksX0_pair_0 17 rfl rfl)
theorem dX0_pair_20 : decode cX0_pair 20 = .ok (.iconst 3, 1) := dk_6 (dk_at dksX0_pair_0 20 rfl rfl)
theorem dX0_pair_21 : decode cX0_pair 21 = .ok (.aload_n 0, 1) := dk_42 (dk_at dksX0_pair_0 21 rfl rfl)
theorem dX0_pair_22 : decode cX0_pair 22 = .ok (.getfield 192, 3) := dk_180 0 192 (dk_at dksX0_pair_1 0 rfl rfl)
theorem dX0_pair_25 : decode cX0_pair 25 = .ok (.imul, 1) := dk_104 (dk_at dksX0_pair_1 3 rfl rfl)
theorem dX0_pair_26 : decode cX0_pair 26 = .ok (.iload_n 1, 1) := dk_27 (dk_at dksX0_pair_1 4 rfl rfl)
theorem dX0_pair_27 : decode cX0_pair 27 = .ok (.iastore, 1) := dk_79 (dk_at dksX0_pair_1 5 rfl rfl)
theorem dX0_pair_28 : decode cX0_pair 28 = .ok (.aload_n 0, 1) := dk_42 (dk_at dksX0_pair_1 6 rfl rfl)
theorem dX0_pair_29 : decode cX0_pair 29 = .ok (.getfield 26, 3) := dk_180 0 26 (dk_at dksX0_pair_1 7 rfl rfl)
theorem dX0_pair_32 : decode cX0_pair 32 = .ok (.iconst 3, 1) := dk_6 (dk_at dksX0_pair_1 10 rfl rfl)
theorem dX0_pair_33 : decode cX0_pair 33 = .ok (.aload_n 0, 1) := dk_42 (dk_at dksX0_pair_1 11 rfl rfl)
theorem dX0_pair_34 : decode cX0_pair 34 = .ok (.getfield 192, 3) := dk_180 0 192 (dk_at dksX0_pair_1 12 rfl rfl)
theorem dX0_pair_37 : decode cX0_pair 37 = .ok (.imul, 1) := dk_104 (dk_at dksX0_pair_1 15 rfl rfl)
theorem dX0_pair_38 : decode cX0_pair 38 = .ok (.iconst 1, 1) := dk_4 (dk_at dksX0_pair_1 16 rfl rfl)
theorem dX0_pair_39 : decode cX0_pair 39 = .ok (.iadd, 1) := dk_96 (dk_at dksX0_pair_1 17 rfl rfl)
theorem dX0_pair_40 : decode cX0_pair 40 = .ok (.iload_n 2, 1) := dk_28 (dk_at dksX0_pair_1 18 rfl rfl)
theorem dX0_pair_41 : decode cX0_pair 41 = .ok (.iastore, 1) := dk_79 (dk_at dksX0_pair_1 19 rfl rfl)
theorem dX0_pair_42 : decode cX0_pair 42 = .ok (.aload_n 0, 1) := dk_42 (dk_at dksX0_pair_1 20 rfl rfl)
theorem dX0_pair_43 : decode cX0_pair 43 = .ok (.getfield 26, 3) := dk_180 0 26 (dk_at dksX0_pair_1 21 rfl rfl)
theorem dX0_pair_46 : decode cX0_pair 46 = .ok (.iconst 3, 1) := dk_6 (dk_at dksX0_pair_2 0 rfl rfl)
theorem dX0_pair_47 : decode cX0_pair 47 = .ok (.aload_n 0, 1) := dk_42 (dk_at dksX0_pair_2 1 rfl rfl)
theorem dX0_pair_48 : decode cX0_pair 48 = .ok (.getfield 192, 3) := dk_180 0 192 (dk_at dksX0_pair_2 2 rfl rfl)
theorem dX0_pair_51 : decode cX0_pair 51 = .ok (.imul, 1) := dk_104 (dk_at dksX0_pair_2 5 rfl rfl)
theorem dX0_pair_52 : decode cX0_pair 52 = .ok (.iconst 2, 1) := dk_5 (dk_at dksX0_pair_2 6 rfl rfl)
theorem dX0_pair_53 : decode cX0_pair 53 = .ok (.iadd, 1) := dk_96 (dk_at dksX0_pair_2 7 rfl rfl)
theorem dX0_pair_54 : decode cX0_pair 54 = .ok (.iload_n 3, 1) := dk_29 (dk_at dksX0_pair_2 8 rfl rfl)
theorem dX0_pair_55 : decode cX0_pair 55 = .ok (.iastore, 1) := dk_79 (dk_at dksX0_pair_2 9 rfl rfl)
theorem dX0_pair_56 : decode cX0_pair 56 = .ok (.aload_n 0, 1) := dk_42 (dk_at dksX0_pair_2 10 rfl rfl)
theorem dX0_pair_57 : decode cX0_pair 57 = .ok (.getfield 30, 3) := dk_180 0 30 (dk_at dksX0_pair_2 11 rfl rfl)
theorem dX0_pair_60 : decode cX0_pair 60 = .ok (.aload_n 0, 1) := dk_42 (dk_at dksX0_pair_2 14 rfl rfl)
theorem dX0_pair_61 : decode cX0_pair 61 = .ok (.getfield 192, 3) := dk_180 0 192 (dk_at dksX0_pair_2 15 rfl rfl)
theorem dX0_pair_64 : decode cX0_pair 64 = .ok (.lload 4, 2) := dk_22 4 (dk_at dksX0_pair_2 18 rfl rfl)
theorem dX0_pair_66 : decode cX0_pair 66 = .ok (.lastore, 1) := dk_80 (dk_at dksX0_pair_2 20 rfl rfl)
theorem dX0_pair_67 : decode cX0_pair 67 = .ok (.aload_n 0, 1) := dk_42 (dk_at dksX0_pair_2 21 rfl rfl)
theorem dX0_pair_68 : decode cX0_pair 68 = .ok (.aload_n 0, 1) := dk_42 (dk_at dksX0_pair_2 22 rfl rfl)
theorem dX0_pair_69 : decode cX0_pair 69 = .ok (.dup, 1) := dk_89 (dk_at dksX0_pair_2 23 rfl rfl)
theorem dX0_pair_70 : decode cX0_pair 70 = .ok (.getfield 192, 3) := dk_180 0 192 (dk_at dksX0_pair_3 0 rfl rfl)
theorem dX0_pair_73 : decode cX0_pair 73 = .ok (.iconst 1, 1) := dk_4 (dk_at dksX0_pair_3 3 rfl rfl)
theorem dX0_pair_74 : decode cX0_pair 74 = .ok (.iadd, 1) := dk_96 (dk_at dksX0_pair_3 4 rfl rfl)
theorem dX0_pair_75 : decode cX0_pair 75 = .ok (.dup_x1, 1) := dk_90 (dk_at dksX0_pair_3 5 rfl rfl)
theorem dX0_pair_76 : decode cX0_pair 76 = .ok (.putfield 192, 3) := dk_181 0 192 (dk_at dksX0_pair_3 6 rfl rfl)
theorem dX0_pair_79 : decode cX0_pair 79 = .ok (.invokevirtual 114, 3) := dk_182 0 114 (dk_at dksX0_pair_3 9 rfl rfl)
theorem dX0_pair_82 : decode cX0_pair 82 = .ok (.ireturn, 1) := dk_172 (dk_at dksX0_pair_3 12 rfl rfl)
abbrev cX0_gather : ByteArray := prog_1_method_36_code
def yX0_gather : MethodName := ⟨RX0, "gather", "(II)I"⟩
def dkwX0_gather_7 : List UInt8 := [21, 5, 182, 0, 114, 172]
abbrev dktX0_gather_7 : List UInt8 := dkwX0_gather_7 ++ []
def dkwX0_gather_6 : List UInt8 := [167, 255, 179, 167, 0, 14, 58, 6, 42, 16, 6, 181, 0, 44, 21, 5, 172, 42, 3, 181, 0, 192, 42]
abbrev dktX0_gather_6 : List UInt8 := dkwX0_gather_6 ++ dktX0_gather_7
def dkwX0_gather_5 : List UInt8 := [45, 25, 4, 42, 180, 0, 34, 182, 0, 160, 42, 180, 0, 30, 21, 5, 47, 28, 184, 0, 195, 132, 5, 1]
abbrev dktX0_gather_5 : List UInt8 := dkwX0_gather_5 ++ dktX0_gather_6
def dkwX0_gather_4 : List UInt8 := [180, 0, 34, 182, 0, 171, 54, 6, 21, 6, 2, 159, 0, 13, 42, 21, 6, 182, 0, 174, 87, 21, 5, 172]
abbrev dktX0_gather_4 : List UInt8 := dkwX0_gather_4 ++ dktX0_gather_5
def dkwX0_gather_3 : List UInt8 := [162, 0, 74, 42, 180, 0, 26, 6, 21, 5, 104, 42, 180, 0, 34, 3, 6, 184, 0, 150, 25, 4, 42]
abbrev dktX0_gather_3 : List UInt8 := dkwX0_gather_3 ++ dktX0_gather_4
def dkwX0_gather_2 : List UInt8 := [182, 0, 47, 172, 42, 180, 0, 18, 27, 50, 180, 0, 96, 58, 4, 3, 54, 5, 21, 5, 42, 180, 0, 192]
abbrev dktX0_gather_2 : List UInt8 := dkwX0_gather_2 ++ dktX0_gather_3
def dkwX0_gather_1 : List UInt8 := [182, 0, 47, 172, 42, 180, 0, 18, 27, 50, 180, 0, 101, 78, 45, 193, 0, 58, 153, 0, 9, 42, 5]
abbrev dktX0_gather_1 : List UInt8 := dkwX0_gather_1 ++ dktX0_gather_2
def dkwX0_gather_0 : List UInt8 := [28, 155, 0, 8, 28, 8, 164, 0, 6, 18, 119, 172, 42, 27, 182, 0, 143, 154, 0, 10, 42, 16, 7]
abbrev dktX0_gather_0 : List UInt8 := dkwX0_gather_0 ++ dktX0_gather_1
theorem dksX0_gather_0 : cX0_gather.data.toList.drop 0 = dktX0_gather_0 := by decide +kernel
theorem dksX0_gather_1 : cX0_gather.data.toList.drop 23 = dktX0_gather_1 := dk_seg dksX0_gather_0 23 rfl rfl
theorem dksX0_gather_2 : cX0_gather.data.toList.drop 46 = dktX0_gather_2 := dk_seg dksX0_gather_1 23 rfl rfl
theorem dksX0_gather_3 : cX0_gather.data.toList.drop 70 = dktX0_gather_3 := dk_seg dksX0_gather_2 24 rfl rfl
theorem dksX0_gather_4 : cX0_gather.data.toList.drop 93 = dktX0_gather_4 := dk_seg dksX0_gather_3 23 rfl rfl
theorem dksX0_gather_5 : cX0_gather.data.toList.drop 117 = dktX0_gather_5 := dk_seg dksX0_gather_4 24 rfl rfl
theorem dksX0_gather_6 : cX0_gather.data.toList.drop 141 = dktX0_gather_6 := dk_seg dksX0_gather_5 24 rfl rfl
theorem dksX0_gather_7 : cX0_gather.data.toList.drop 164 = dktX0_gather_7 := dk_seg dksX0_gather_6 23 rfl rfl
theorem dX0_gather_0 : decode cX0_gather 0 = .ok (.iload_n 2, 1) := dk_28 (dk_at dksX0_gather_0 0 rfl rfl)
theorem dX0_gather_1 : decode cX0_gather 1 = .ok (.ifCond .lt 8, 3) := dk_155 0 8 (dk_at dksX0_gather_0 1 rfl rfl)
theorem dX0_gather_4 : decode cX0_gather 4 = .ok (.iload_n 2, 1) := dk_28 (dk_at dksX0_gather_0 4 rfl rfl)
theorem dX0_gather_5 : decode cX0_gather 5 = .ok (.iconst 5, 1) := dk_8 (dk_at dksX0_gather_0 5 rfl rfl)
theorem dX0_gather_6 : decode cX0_gather 6 = .ok (.if_icmp .le 6, 3) := dk_164 0 6 (dk_at dksX0_gather_0 6 rfl rfl)
theorem dX0_gather_9 : decode cX0_gather 9 = .ok (.ldc 119, 2) := dk_18 119 (dk_at dksX0_gather_0 9 rfl rfl)
theorem dX0_gather_11 : decode cX0_gather 11 = .ok (.ireturn, 1) := dk_172 (dk_at dksX0_gather_0 11 rfl rfl)
theorem dX0_gather_12 : decode cX0_gather 12 = .ok (.aload_n 0, 1) := dk_42 (dk_at dksX0_gather_0 12 rfl rfl)
theorem dX0_gather_13 : decode cX0_gather 13 = .ok (.iload_n 1, 1) := dk_27 (dk_at dksX0_gather_0 13 rfl rfl)
theorem dX0_gather_14 : decode cX0_gather 14 = .ok (.invokevirtual 143, 3) := dk_182 0 143 (dk_at dksX0_gather_0 14 rfl rfl)
theorem dX0_gather_17 : decode cX0_gather 17 = .ok (.ifCond .ne 10, 3) := dk_154 0 10 (dk_at dksX0_gather_0 17 rfl rfl)
theorem dX0_gather_20 : decode cX0_gather 20 = .ok (.aload_n 0, 1) := dk_42 (dk_at dksX0_gather_0 20 rfl rfl)
theorem dX0_gather_21 : decode cX0_gather 21 = .ok (.bipush 7, 2) := dk_16 7 (dk_at dksX0_gather_0 21 rfl rfl)
theorem dX0_gather_23 : decode cX0_gather 23 = .ok (.invokevirtual 47, 3) := dk_182 0 47 (dk_at dksX0_gather_1 0 rfl rfl)
theorem dX0_gather_26 : decode cX0_gather 26 = .ok (.ireturn, 1) := dk_172 (dk_at dksX0_gather_1 3 rfl rfl)
theorem dX0_gather_27 : decode cX0_gather 27 = .ok (.aload_n 0, 1) := dk_42 (dk_at dksX0_gather_1 4 rfl rfl)
theorem dX0_gather_28 : decode cX0_gather 28 = .ok (.getfield 18, 3) := dk_180 0 18 (dk_at dksX0_gather_1 5 rfl rfl)
theorem dX0_gather_31 : decode cX0_gather 31 = .ok (.iload_n 1, 1) := dk_27 (dk_at dksX0_gather_1 8 rfl rfl)
theorem dX0_gather_32 : decode cX0_gather 32 = .ok (.aaload, 1) := dk_50 (dk_at dksX0_gather_1 9 rfl rfl)
theorem dX0_gather_33 : decode cX0_gather 33 = .ok (.getfield 101, 3) := dk_180 0 101 (dk_at dksX0_gather_1 10 rfl rfl)
theorem dX0_gather_36 : decode cX0_gather 36 = .ok (.astore_n 3, 1) := dk_78 (dk_at dksX0_gather_1 13 rfl rfl)
theorem dX0_gather_37 : decode cX0_gather 37 = .ok (.aload_n 3, 1) := dk_45 (dk_at dksX0_gather_1 14 rfl rfl)
theorem dX0_gather_38 : decode cX0_gather 38 = .ok (.instanceof 58, 3) := dk_193 0 58 (dk_at dksX0_gather_1 15 rfl rfl)
theorem dX0_gather_41 : decode cX0_gather 41 = .ok (.ifCond .eq 9, 3) := dk_153 0 9 (dk_at dksX0_gather_1 18 rfl rfl)
theorem dX0_gather_44 : decode cX0_gather 44 = .ok (.aload_n 0, 1) := dk_42 (dk_at dksX0_gather_1 21 rfl rfl)
theorem dX0_gather_45 : decode cX0_gather 45 = .ok (.iconst 2, 1) := dk_5 (dk_at dksX0_gather_1 22 rfl rfl)
theorem dX0_gather_46 : decode cX0_gather 46 = .ok (.invokevirtual 47, 3) := dk_182 0 47 (dk_at dksX0_gather_2 0 rfl rfl)
theorem dX0_gather_49 : decode cX0_gather 49 = .ok (.ireturn, 1) := dk_172 (dk_at dksX0_gather_2 3 rfl rfl)
theorem dX0_gather_50 : decode cX0_gather 50 = .ok (.aload_n 0, 1) := dk_42 (dk_at dksX0_gather_2 4 rfl rfl)
theorem dX0_gather_51 : decode cX0_gather 51 = .ok (.getfield 18, 3) := dk_180 0 18 (dk_at dksX0_gather_2 5 rfl rfl)
theorem dX0_gather_54 : decode cX0_gather 54 = .ok (.iload_n 1, 1) := dk_27 (dk_at dksX0_gather_2 8 rfl rfl)
theorem dX0_gather_55 : decode cX0_gather 55 = .ok (.aaload, 1) := dk_50 (dk_at dksX0_gather_2 9 rfl rfl)
theorem dX0_gather_56 : decode cX0_gather 56 = .ok (.getfield 96, 3) := dk_180 0 96 (dk_at dksX0_gather_2 10 rfl rfl)
theorem dX0_gather_59 : decode cX0_gather 59 = .ok (.astore 4, 2) := dk_58 4 (dk_at dksX0_gather_2 13 rfl rfl)
theorem dX0_gather_61 : decode cX0_gather 61 = .ok (.iconst 0, 1) := dk_3 (dk_at dksX0_gather_2 15 rfl rfl)
theorem dX0_gather_62 : decode cX0_gather 62 = .ok (.istore 5, 2) := dk_54 5 (dk_at dksX0_gather_2 16 rfl rfl)
theorem dX0_gather_64 : decode cX0_gather 64 = .ok (.iload 5, 2) := dk_21 5 (dk_at dksX0_gather_2 18 rfl rfl)
theorem dX0_gather_66 : decode cX0_gather 66 = .ok (.aload_n 0, 1) := dk_42 (dk_at dksX0_gather_2 20 rfl rfl)
theorem dX0_gather_67 : decode cX0_gather 67 = .ok (.getfield 192, 3) := dk_180 0 192 (dk_at dksX0_gather_2 21 rfl rfl)
theorem dX0_gather_70 : decode cX0_gather 70 = .ok (.if_icmp .ge 74, 3) := dk_162 0 74 (dk_at dksX0_gather_3 0 rfl rfl)
theorem dX0_gather_73 : decode cX0_gather 73 = .ok (.aload_n 0, 1) := dk_42 (dk_at dksX0_gather_3 3 rfl rfl)
theorem dX0_gather_74 : decode cX0_gather 74 = .ok (.getfield 26, 3) := dk_180 0 26 (dk_at dksX0_gather_3 4 rfl rfl)
theorem dX0_gather_77 : decode cX0_gather 77 = .ok (.iconst 3, 1) := dk_6 (dk_at dksX0_gather_3 7 rfl rfl)
theorem dX0_gather_78 : decode cX0_gather 78 = .ok (.iload 5, 2) := dk_21 5 (dk_at dksX0_gather_3 8 rfl rfl)
theorem dX0_gather_80 : decode cX0_gather 80 = .ok (.imul, 1) := dk_104 (dk_at dksX0_gather_3 10 rfl rfl)
theorem dX0_gather_81 : decode cX0_gather 81 = .ok (.aload_n 0, 1) := dk_42 (dk_at dksX0_gather_3 11 rfl rfl)
theorem dX0_gather_82 : decode cX0_gather 82 = .ok (.getfield 34, 3) := dk_180 0 34 (dk_at dksX0_gather_3 12 rfl rfl)
theorem dX0_gather_85 : decode cX0_gather 85 = .ok (.iconst 0, 1) := dk_3 (dk_at dksX0_gather_3 15 rfl rfl)
theorem dX0_gather_86 : decode cX0_gather 86 = .ok (.iconst 3, 1) := dk_6 (dk_at dksX0_gather_3 16 rfl rfl)
theorem dX0_gather_87 : decode cX0_gather 87 = .ok (.invokestatic 150, 3) := dk_184 0 150 (dk_at dksX0_gather_3 17 rfl rfl)
theorem dX0_gather_90 : decode cX0_gather 90 = .ok (.aload 4, 2) := dk_25 4 (dk_at dksX0_gather_3 20 rfl rfl)
theorem dX0_gather_92 : decode cX0_gather 92 = .ok (.aload_n 0, 1) := dk_42 (dk_at dksX0_gather_3 22 rfl rfl)
theorem dX0_gather_93 : decode cX0_gather 93 = .ok (.getfield 34, 3) := dk_180 0 34 (dk_at dksX0_gather_4 0 rfl rfl)
theorem dX0_gather_96 : decode cX0_gather 96 = .ok (.invokevirtual 171, 3) := dk_182 0 171 (dk_at dksX0_gather_4 3 rfl rfl)
theorem dX0_gather_99 : decode cX0_gather 99 = .ok (.istore 6, 2) := dk_54 6 (dk_at dksX0_gather_4 6 rfl rfl)
theorem dX0_gather_101 : decode cX0_gather 101 = .ok (.iload 6, 2) := dk_21 6 (dk_at dksX0_gather_4 8 rfl rfl)
theorem dX0_gather_103 : decode cX0_gather 103 = .ok (.iconst (-1), 1) := dk_2 (dk_at dksX0_gather_4 10 rfl rfl)
theorem dX0_gather_104 : decode cX0_gather 104 = .ok (.if_icmp .eq 13, 3) := dk_159 0 13 (dk_at dksX0_gather_4 11 rfl rfl)
theorem dX0_gather_107 : decode cX0_gather 107 = .ok (.aload_n 0, 1) := dk_42 (dk_at dksX0_gather_4 14 rfl rfl)
theorem dX0_gather_108 : decode cX0_gather 108 = .ok (.iload 6, 2) := dk_21 6 (dk_at dksX0_gather_4 15 rfl rfl)
theorem dX0_gather_110 : decode cX0_gather 110 = .ok (.invokevirtual 174, 3) := dk_182 0 174 (dk_at dksX0_gather_4 17 rfl rfl)
theorem dX0_gather_113 : decode cX0_gather 113 = .ok (.pop, 1) := dk_87 (dk_at dksX0_gather_4 20 rfl rfl)
theorem dX0_gather_114 : decode cX0_gather 114 = .ok (.iload 5, 2) := dk_21 5 (dk_at dksX0_gather_4 21 rfl rfl)
theorem dX0_gather_116 : decode cX0_gather 116 = .ok (.ireturn, 1) := dk_172 (dk_at dksX0_gather_4 23 rfl rfl)
theorem dX0_gather_117 : decode cX0_gather 117 = .ok (.aload_n 3, 1) := dk_45 (dk_at dksX0_gather_5 0 rfl rfl)
theorem dX0_gather_118 : decode cX0_gather 118 = .ok (.aload 4, 2) := dk_25 4 (dk_at dksX0_gather_5 1 rfl rfl)
theorem dX0_gather_120 : decode cX0_gather 120 = .ok (.aload_n 0, 1) := dk_42 (dk_at dksX0_gather_5 3 rfl rfl)
theorem dX0_gather_121 : decode cX0_gather 121 = .ok (.getfield 34, 3) := dk_180 0 34 (dk_at dksX0_gather_5 4 rfl rfl)
theorem dX0_gather_124 : decode cX0_gather 124 = .ok (.invokevirtual 160, 3) := dk_182 0 160 (dk_at dksX0_gather_5 7 rfl rfl)
theorem dX0_gather_127 : decode cX0_gather 127 = .ok (.aload_n 0, 1) := dk_42 (dk_at dksX0_gather_5 10 rfl rfl)
theorem dX0_gather_128 : decode cX0_gather 128 = .ok (.getfield 30, 3) := dk_180 0 30 (dk_at dksX0_gather_5 11 rfl rfl)
theorem dX0_gather_131 : decode cX0_gather 131 = .ok (.iload 5, 2) := dk_21 5 (dk_at dksX0_gather_5 14 rfl rfl)
theorem dX0_gather_133 : decode cX0_gather 133 = .ok (.laload, 1) := dk_47 (dk_at dksX0_gather_5 16 rfl rfl)
theorem dX0_gather_134 : decode cX0_gather 134 = .ok (.iload_n 2, 1) := dk_28 (dk_at dksX0_gather_5 17 rfl rfl)
theorem dX0_gather_135 : decode cX0_gather 135 = .ok (.invokestatic 195, 3) := dk_184 0 195 (dk_at dksX0_gather_5 18 rfl rfl)
theorem dX0_gather_138 : decode cX0_gather 138 = .ok (.iinc 5 1, 3) := dk_132 5 1 (dk_at dksX0_gather_5 21 rfl rfl)
theorem dX0_gather_141 : decode cX0_gather 141 = .ok (.goto (-77), 3) := dk_167 255 179 (dk_at dksX0_gather_6 0 rfl rfl)
theorem dX0_gather_144 : decode cX0_gather 144 = .ok (.goto 14, 3) := dk_167 0 14 (dk_at dksX0_gather_6 3 rfl rfl)
theorem dX0_gather_147 : decode cX0_gather 147 = .ok (.astore 6, 2) := dk_58 6 (dk_at dksX0_gather_6 6 rfl rfl)
theorem dX0_gather_149 : decode cX0_gather 149 = .ok (.aload_n 0, 1) := dk_42 (dk_at dksX0_gather_6 8 rfl rfl)
theorem dX0_gather_150 : decode cX0_gather 150 = .ok (.bipush 6, 2) := dk_16 6 (dk_at dksX0_gather_6 9 rfl rfl)
theorem dX0_gather_152 : decode cX0_gather 152 = .ok (.putfield 44, 3) := dk_181 0 44 (dk_at dksX0_gather_6 11 rfl rfl)
theorem dX0_gather_155 : decode cX0_gather 155 = .ok (.iload 5, 2) := dk_21 5 (dk_at dksX0_gather_6 14 rfl rfl)
theorem dX0_gather_157 : decode cX0_gather 157 = .ok (.ireturn, 1) := dk_172 (dk_at dksX0_gather_6 16 rfl rfl)
theorem dX0_gather_158 : decode cX0_gather 158 = .ok (.aload_n 0, 1) := dk_42 (dk_at dksX0_gather_6 17 rfl rfl)
theorem dX0_gather_159 : decode cX0_gather 159 = .ok (.iconst 0, 1) := dk_3 (dk_at dksX0_gather_6 18 rfl rfl)
theorem dX0_gather_160 : decode cX0_gather 160 = .ok (.putfield 192, 3) := dk_181 0 192 (dk_at dksX0_gather_6 19 rfl rfl)
theorem dX0_gather_163 : decode cX0_gather 163 = .ok (.aload_n 0, 1) := dk_42 (dk_at dksX0_gather_6 22 rfl rfl)
theorem dX0_gather_164 : decode cX0_gather 164 = .ok (.iload 5, 2) := dk_21 5 (dk_at dksX0_gather_7 0 rfl rfl)
theorem dX0_gather_166 : decode cX0_gather 166 = .ok (.invokevirtual 114, 3) := dk_182 0 114 (dk_at dksX0_gather_7 2 rfl rfl)
theorem dX0_gather_169 : decode cX0_gather 169 = .ok (.ireturn, 1) := dk_172 (dk_at dksX0_gather_7 5 rfl rfl)
abbrev cX0_join : ByteArray := prog_1_method_12_code
def yX0_join : MethodName := ⟨RX0, "join", "(Ljava/lang/Object;IJI)V"⟩
def dkwX0_join_2 : List UInt8 := [177]
abbrev dktX0_join_2 : List UInt8 := dkwX0_join_2 ++ []
def dkwX0_join_1 : List UInt8 := [27, 21, 5, 153, 0, 7, 32, 167, 0, 14, 42, 27, 184, 0, 84, 32, 21, 4, 184, 0, 88, 184, 0, 92]
abbrev dktX0_join_1 : List UInt8 := dkwX0_join_1 ++ dktX0_join_2
def dkwX0_join_0 : List UInt8 := [42, 193, 0, 66, 153, 0, 16, 42, 192, 0, 66, 27, 50, 199, 0, 7, 4, 167, 0, 4, 3, 54, 5, 42]
abbrev dktX0_join_0 : List UInt8 := dkwX0_join_0 ++ dktX0_join_1
theorem dksX0_join_0 : cX0_join.data.toList.drop 0 = dktX0_join_0 := by decide +kernel
theorem dksX0_join_1 : cX0_join.data.toList.drop 24 = dktX0_join_1 := dk_seg dksX0_join_0 24 rfl rfl
theorem dksX0_join_2 : cX0_join.data.toList.drop 48 = dktX0_join_2 := dk_seg dksX0_join_1 24 rfl rfl
theorem dX0_join_0 : decode cX0_join 0 = .ok (.aload_n 0, 1) := dk_42 (dk_at dksX0_join_0 0 rfl rfl)
theorem dX0_join_1 : decode cX0_join 1 = .ok (.instanceof 66, 3) := dk_193 0 66 (dk_at dksX0_join_0 1 rfl rfl)
theorem dX0_join_4 : decode cX0_join 4 = .ok (.ifCond .eq 16, 3) := dk_153 0 16 (dk_at dksX0_join_0 4 rfl rfl)
theorem dX0_join_7 : decode cX0_join 7 = .ok (.aload_n 0, 1) := dk_42 (dk_at dksX0_join_0 7 rfl rfl)
theorem dX0_join_8 : decode cX0_join 8 = .ok (.checkcast 66, 3) := dk_192 0 66 (dk_at dksX0_join_0 8 rfl rfl)
theorem dX0_join_11 : decode cX0_join 11 = .ok (.iload_n 1, 1) := dk_27 (dk_at dksX0_join_0 11 rfl rfl)
theorem dX0_join_12 : decode cX0_join 12 = .ok (.aaload, 1) := dk_50 (dk_at dksX0_join_0 12 rfl rfl)
theorem dX0_join_13 : decode cX0_join 13 = .ok (.ifnonnull 7, 3) := dk_199 0 7 (dk_at dksX0_join_0 13 rfl rfl)
theorem dX0_join_16 : decode cX0_join 16 = .ok (.iconst 1, 1) := dk_4 (dk_at dksX0_join_0 16 rfl rfl)
theorem dX0_join_17 : decode cX0_join 17 = .ok (.goto 4, 3) := dk_167 0 4 (dk_at dksX0_join_0 17 rfl rfl)
theorem dX0_join_20 : decode cX0_join 20 = .ok (.iconst 0, 1) := dk_3 (dk_at dksX0_join_0 20 rfl rfl)
theorem dX0_join_21 : decode cX0_join 21 = .ok (.istore 5, 2) := dk_54 5 (dk_at dksX0_join_0 21 rfl rfl)
theorem dX0_join_23 : decode cX0_join 23 = .ok (.aload_n 0, 1) := dk_42 (dk_at dksX0_join_0 23 rfl rfl)
theorem dX0_join_24 : decode cX0_join 24 = .ok (.iload_n 1, 1) := dk_27 (dk_at dksX0_join_1 0 rfl rfl)
theorem dX0_join_25 : decode cX0_join 25 = .ok (.iload 5, 2) := dk_21 5 (dk_at dksX0_join_1 1 rfl rfl)
theorem dX0_join_27 : decode cX0_join 27 = .ok (.ifCond .eq 7, 3) := dk_153 0 7 (dk_at dksX0_join_1 3 rfl rfl)
theorem dX0_join_30 : decode cX0_join 30 = .ok (.lload_n 2, 1) := dk_32 (dk_at dksX0_join_1 6 rfl rfl)
theorem dX0_join_31 : decode cX0_join 31 = .ok (.goto 14, 3) := dk_167 0 14 (dk_at dksX0_join_1 7 rfl rfl)
theorem dX0_join_34 : decode cX0_join 34 = .ok (.aload_n 0, 1) := dk_42 (dk_at dksX0_join_1 10 rfl rfl)
theorem dX0_join_35 : decode cX0_join 35 = .ok (.iload_n 1, 1) := dk_27 (dk_at dksX0_join_1 11 rfl rfl)
theorem dX0_join_36 : decode cX0_join 36 = .ok (.invokestatic 84, 3) := dk_184 0 84 (dk_at dksX0_join_1 12 rfl rfl)
theorem dX0_join_39 : decode cX0_join 39 = .ok (.lload_n 2, 1) := dk_32 (dk_at dksX0_join_1 15 rfl rfl)
theorem dX0_join_40 : decode cX0_join 40 = .ok (.iload 4, 2) := dk_21 4 (dk_at dksX0_join_1 16 rfl rfl)
theorem dX0_join_42 : decode cX0_join 42 = .ok (.invokestatic 88, 3) := dk_184 0 88 (dk_at dksX0_join_1 18 rfl rfl)
theorem dX0_join_45 : decode cX0_join 45 = .ok (.invokestatic 92, 3) := dk_184 0 92 (dk_at dksX0_join_1 21 rfl rfl)
theorem dX0_join_48 : decode cX0_join 48 = .ok (.return_, 1) := dk_177 (dk_at dksX0_join_2 0 rfl rfl)
abbrev cX0_joined : ByteArray := prog_1_method_11_code
def yX0_joined : MethodName := ⟨RX0, "joined", "(JJI)J"⟩
def dkwX0_joined_3 : List UInt8 := [113, 173]
abbrev dktX0_joined_3 : List UInt8 := dkwX0_joined_3 ++ []
def dkwX0_joined_2 : List UInt8 := [32, 173, 30, 32, 97, 173, 30, 32, 184, 0, 75, 173, 30, 32, 184, 0, 81, 173, 30, 32, 109, 173, 30, 32]
abbrev dktX0_joined_2 : List UInt8 := dkwX0_joined_2 ++ dktX0_joined_3
def dkwX0_joined_1 : List UInt8 := [170, 0, 0, 0, 0, 56, 0, 0, 0, 0, 0, 0, 0, 4, 0, 0, 0, 34, 0, 0, 0, 36, 0, 0, 0, 40, 0, 0, 0, 46, 0, 0, 0, 52]
abbrev dktX0_joined_1 : List UInt8 := dkwX0_joined_1 ++ dktX0_joined_2
def dkwX0_joined_0 : List UInt8 := [21, 4]
abbrev dktX0_joined_0 : List UInt8 := dkwX0_joined_0 ++ dktX0_joined_1
theorem dksX0_joined_0 : cX0_joined.data.toList.drop 0 = dktX0_joined_0 := by decide +kernel
theorem dksX0_joined_1 : cX0_joined.data.toList.drop 2 = dktX0_joined_1 := dk_seg dksX0_joined_0 2 rfl rfl
theorem dksX0_joined_2 : cX0_joined.data.toList.drop 36 = dktX0_joined_2 := dk_seg dksX0_joined_1 34 rfl rfl
theorem dksX0_joined_3 : cX0_joined.data.toList.drop 60 = dktX0_joined_3 := dk_seg dksX0_joined_2 24 rfl rfl
theorem dX0_joined_0 : decode cX0_joined 0 = .ok (.iload 4, 2) := dk_21 4 (dk_at dksX0_joined_0 0 rfl rfl)
theorem dX0_joined_2 : decode cX0_joined 2 = .ok (.tableswitch 56 0 4 #[34, 36, 40, 46, 52], 34) := by decide +kernel
theorem dX0_joined_36 : decode cX0_joined 36 = .ok (.lload_n 2, 1) := dk_32 (dk_at dksX0_joined_2 0 rfl rfl)
theorem dX0_joined_37 : decode cX0_joined 37 = .ok (.lreturn, 1) := dk_173 (dk_at dksX0_joined_2 1 rfl rfl)
theorem dX0_joined_38 : decode cX0_joined 38 = .ok (.lload_n 0, 1) := dk_30 (dk_at dksX0_joined_2 2 rfl rfl)
theorem dX0_joined_39 : decode cX0_joined 39 = .ok (.lload_n 2, 1) := dk_32 (dk_at dksX0_joined_2 3 rfl rfl)
theorem dX0_joined_40 : decode cX0_joined 40 = .ok (.ladd, 1) := dk_97 (dk_at dksX0_joined_2 4 rfl rfl)
theorem dX0_joined_41 : decode cX0_joined 41 = .ok (.lreturn, 1) := dk_173 (dk_at dksX0_joined_2 5 rfl rfl)
theorem dX0_joined_42 : decode cX0_joined 42 = .ok (.lload_n 0, 1) := dk_30 (dk_at dksX0_joined_2 6 rfl rfl)
theorem dX0_joined_43 : decode cX0_joined 43 = .ok (.lload_n 2, 1) := dk_32 (dk_at dksX0_joined_2 7 rfl rfl)
theorem dX0_joined_44 : decode cX0_joined 44 = .ok (.invokestatic 75, 3) := dk_184 0 75 (dk_at dksX0_joined_2 8 rfl rfl)
theorem dX0_joined_47 : decode cX0_joined 47 = .ok (.lreturn, 1) := dk_173 (dk_at dksX0_joined_2 11 rfl rfl)
theorem dX0_joined_48 : decode cX0_joined 48 = .ok (.lload_n 0, 1) := dk_30 (dk_at dksX0_joined_2 12 rfl rfl)
theorem dX0_joined_49 : decode cX0_joined 49 = .ok (.lload_n 2, 1) := dk_32 (dk_at dksX0_joined_2 13 rfl rfl)
theorem dX0_joined_50 : decode cX0_joined 50 = .ok (.invokestatic 81, 3) := dk_184 0 81 (dk_at dksX0_joined_2 14 rfl rfl)
theorem dX0_joined_53 : decode cX0_joined 53 = .ok (.lreturn, 1) := dk_173 (dk_at dksX0_joined_2 17 rfl rfl)
theorem dX0_joined_54 : decode cX0_joined 54 = .ok (.lload_n 0, 1) := dk_30 (dk_at dksX0_joined_2 18 rfl rfl)
theorem dX0_joined_55 : decode cX0_joined 55 = .ok (.lload_n 2, 1) := dk_32 (dk_at dksX0_joined_2 19 rfl rfl)
theorem dX0_joined_56 : decode cX0_joined 56 = .ok (.ldiv, 1) := dk_109 (dk_at dksX0_joined_2 20 rfl rfl)
theorem dX0_joined_57 : decode cX0_joined 57 = .ok (.lreturn, 1) := dk_173 (dk_at dksX0_joined_2 21 rfl rfl)
theorem dX0_joined_58 : decode cX0_joined 58 = .ok (.lload_n 0, 1) := dk_30 (dk_at dksX0_joined_2 22 rfl rfl)
theorem dX0_joined_59 : decode cX0_joined 59 = .ok (.lload_n 2, 1) := dk_32 (dk_at dksX0_joined_2 23 rfl rfl)
theorem dX0_joined_60 : decode cX0_joined 60 = .ok (.lrem, 1) := dk_113 (dk_at dksX0_joined_3 0 rfl rfl)
theorem dX0_joined_61 : decode cX0_joined 61 = .ok (.lreturn, 1) := dk_173 (dk_at dksX0_joined_3 1 rfl rfl)
abbrev cX0_join_2 : ByteArray := prog_1_method_37_code
def yX0_join_2 : MethodName := ⟨RX0, "join", "(III)I"⟩
def dkwX0_join_2_7 : List UInt8 := [21, 6, 172]
abbrev dktX0_join_2_7 : List UInt8 := dkwX0_join_2_7 ++ []
def dkwX0_join_2_6 : List UInt8 := [167, 255, 228, 167, 0, 21, 58, 7, 42, 4, 181, 0, 44, 167, 0, 11, 58, 7, 42, 16, 6, 181, 0, 44]
abbrev dktX0_join_2_6 : List UInt8 := dkwX0_join_2_6 ++ dktX0_join_2_7
def dkwX0_join_2_5 : List UInt8 := [184, 0, 147, 162, 0, 24, 25, 4, 21, 6, 25, 5, 21, 6, 184, 0, 84, 29, 184, 0, 195, 132, 6, 1]
abbrev dktX0_join_2_5 : List UInt8 := dkwX0_join_2_5 ++ dktX0_join_2_6
def dkwX0_join_2_4 : List UInt8 := [159, 0, 10, 42, 16, 10, 182, 0, 47, 172, 3, 54, 6, 42, 3, 181, 0, 44, 21, 6, 25, 4]
abbrev dktX0_join_2_4 : List UInt8 := dkwX0_join_2_4 ++ dktX0_join_2_5
def dkwX0_join_2_3 : List UInt8 := [25, 4, 193, 0, 58, 153, 0, 9, 42, 5, 182, 0, 47, 172, 25, 4, 184, 0, 147, 25, 5, 184, 0, 147]
abbrev dktX0_join_2_3 : List UInt8 := dkwX0_join_2_3 ++ dktX0_join_2_4
def dkwX0_join_2_2 : List UInt8 := [42, 180, 0, 18, 28, 50, 180, 0, 101, 58, 5, 25, 4, 184, 0, 62, 25, 5, 184, 0, 62, 160, 0, 11]
abbrev dktX0_join_2_2 : List UInt8 := dkwX0_join_2_2 ++ dktX0_join_2_3
def dkwX0_join_2_1 : List UInt8 := [182, 0, 143, 154, 0, 10, 42, 16, 7, 182, 0, 47, 172, 42, 180, 0, 18, 27, 50, 180, 0, 101, 58, 4]
abbrev dktX0_join_2_1 : List UInt8 := dkwX0_join_2_1 ++ dktX0_join_2_2
def dkwX0_join_2_0 : List UInt8 := [29, 155, 0, 8, 29, 8, 164, 0, 6, 18, 119, 172, 42, 27, 182, 0, 143, 153, 0, 11, 42, 28]
abbrev dktX0_join_2_0 : List UInt8 := dkwX0_join_2_0 ++ dktX0_join_2_1
theorem dksX0_join_2_0 : cX0_join_2.data.toList.drop 0 = dktX0_join_2_0 := by decide +kernel
theorem dksX0_join_2_1 : cX0_join_2.data.toList.drop 22 = dktX0_join_2_1 := dk_seg dksX0_join_2_0 22 rfl rfl
theorem dksX0_join_2_2 : cX0_join_2.data.toList.drop 46 = dktX0_join_2_2 := dk_seg dksX0_join_2_1 24 rfl rfl
theorem dksX0_join_2_3 : cX0_join_2.data.toList.drop 70 = dktX0_join_2_3 := dk_seg dksX0_join_2_2 24 rfl rfl
theorem dksX0_join_2_4 : cX0_join_2.data.toList.drop 94 = dktX0_join_2_4 := dk_seg dksX0_join_2_3 24 rfl rfl
theorem dksX0_join_2_5 : cX0_join_2.data.toList.drop 116 = dktX0_join_2_5 := dk_seg dksX0_join_2_4 22 rfl rfl
theorem dksX0_join_2_6 : cX0_join_2.data.toList.drop 140 = dktX0_join_2_6 := dk_seg dksX0_join_2_5 24 rfl rfl
theorem dksX0_join_2_7 : cX0_join_2.data.toList.drop 164 = dktX0_join_2_7 := dk_seg dksX0_join_2_6 24 rfl rfl
theorem dX0_join_2_0 : decode cX0_join_2 0 = .ok (.iload_n 3, 1) := dk_29 (dk_at dksX0_join_2_0 0 rfl rfl)
theorem dX0_join_2_1 : decode cX0_join_2 1 = .ok (.ifCond .lt 8, 3) := dk_155 0 8 (dk_at dksX0_join_2_0 1 rfl rfl)
theorem dX0_join_2_4 : decode cX0_join_2 4 = .ok (.iload_n 3, 1) := dk_29 (dk_at dksX0_join_2_0 4 rfl rfl)
theorem dX0_join_2_5 : decode cX0_join_2 5 = .ok (.iconst 5, 1) := dk_8 (dk_at dksX0_join_2_0 5 rfl rfl)
theorem dX0_join_2_6 : decode cX0_join_2 6 = .ok (.if_icmp .le 6, 3) := dk_164 0 6 (dk_at dksX0_join_2_0 6 rfl rfl)
theorem dX0_join_2_9 : decode cX0_join_2 9 = .ok (.ldc 119, 2) := dk_18 119 (dk_at dksX0_join_2_0 9 rfl rfl)
theorem dX0_join_2_11 : decode cX0_join_2 11 = .ok (.ireturn, 1) := dk_172 (dk_at dksX0_join_2_0 11 rfl rfl)
theorem dX0_join_2_12 : decode cX0_join_2 12 = .ok (.aload_n 0, 1) := dk_42 (dk_at dksX0_join_2_0 12 rfl rfl)
theorem dX0_join_2_13 : decode cX0_join_2 13 = .ok (.iload_n 1, 1) := dk_27 (dk_at dksX0_join_2_0 13 rfl rfl)
theorem dX0_join_2_14 : decode cX0_join_2 14 = .ok (.invokevirtual 143, 3) := dk_182 0 143 (dk_at dksX0_join_2_0 14 rfl rfl)
theorem dX0_join_2_17 : decode cX0_join_2 17 = .ok (.ifCond .eq 11, 3) := dk_153 0 11 (dk_at dksX0_join_2_0 17 rfl rfl)
theorem dX0_join_2_20 : decode cX0_join_2 20 = .ok (.aload_n 0, 1) := dk_42 (dk_at dksX0_join_2_0 20 rfl rfl)
theorem dX0_join_2_21 : decode cX0_join_2 21 = .ok (.iload_n 2, 1) := dk_28 (dk_at dksX0_join_2_0 21 rfl rfl)
theorem dX0_join_2_22 : decode cX0_join_2 22 = .ok (.invokevirtual 143, 3) := dk_182 0 143 (dk_at dksX0_join_2_1 0 rfl rfl)
theorem dX0_join_2_25 : decode cX0_join_2 25 = .ok (.ifCond .ne 10, 3) := dk_154 0 10 (dk_at dksX0_join_2_1 3 rfl rfl)
theorem dX0_join_2_28 : decode cX0_join_2 28 = .ok (.aload_n 0, 1) := dk_42 (dk_at dksX0_join_2_1 6 rfl rfl)
theorem dX0_join_2_29 : decode cX0_join_2 29 = .ok (.bipush 7, 2) := dk_16 7 (dk_at dksX0_join_2_1 7 rfl rfl)
theorem dX0_join_2_31 : decode cX0_join_2 31 = .ok (.invokevirtual 47, 3) := dk_182 0 47 (dk_at dksX0_join_2_1 9 rfl rfl)
theorem dX0_join_2_34 : decode cX0_join_2 34 = .ok (.ireturn, 1) := dk_172 (dk_at dksX0_join_2_1 12 rfl rfl)
theorem dX0_join_2_35 : decode cX0_join_2 35 = .ok (.aload_n 0, 1) := dk_42 (dk_at dksX0_join_2_1 13 rfl rfl)
theorem dX0_join_2_36 : decode cX0_join_2 36 = .ok (.getfield 18, 3) := dk_180 0 18 (dk_at dksX0_join_2_1 14 rfl rfl)
theorem dX0_join_2_39 : decode cX0_join_2 39 = .ok (.iload_n 1, 1) := dk_27 (dk_at dksX0_join_2_1 17 rfl rfl)
theorem dX0_join_2_40 : decode cX0_join_2 40 = .ok (.aaload, 1) := dk_50 (dk_at dksX0_join_2_1 18 rfl rfl)
theorem dX0_join_2_41 : decode cX0_join_2 41 = .ok (.getfield 101, 3) := dk_180 0 101 (dk_at dksX0_join_2_1 19 rfl rfl)
theorem dX0_join_2_44 : decode cX0_join_2 44 = .ok (.astore 4, 2) := dk_58 4 (dk_at dksX0_join_2_1 22 rfl rfl)
theorem dX0_join_2_46 : decode cX0_join_2 46 = .ok (.aload_n 0, 1) := dk_42 (dk_at dksX0_join_2_2 0 rfl rfl)
theorem dX0_join_2_47 : decode cX0_join_2 47 = .ok (.getfield 18, 3) := dk_180 0 18 (dk_at dksX0_join_2_2 1 rfl rfl)
theorem dX0_join_2_50 : decode cX0_join_2 50 = .ok (.iload_n 2, 1) := dk_28 (dk_at dksX0_join_2_2 4 rfl rfl)
theorem dX0_join_2_51 : decode cX0_join_2 51 = .ok (.aaload, 1) := dk_50 (dk_at dksX0_join_2_2 5 rfl rfl)
theorem dX0_join_2_52 : decode cX0_join_2 52 = .ok (.getfield 101, 3) := dk_180 0 101 (dk_at dksX0_join_2_2 6 rfl rfl)
theorem dX0_join_2_55 : decode cX0_join_2 55 = .ok (.astore 5, 2) := dk_58 5 (dk_at dksX0_join_2_2 9 rfl rfl)
theorem dX0_join_2_57 : decode cX0_join_2 57 = .ok (.aload 4, 2) := dk_25 4 (dk_at dksX0_join_2_2 11 rfl rfl)
theorem dX0_join_2_59 : decode cX0_join_2 59 = .ok (.invokestatic 62, 3) := dk_184 0 62 (dk_at dksX0_join_2_2 13 rfl rfl)
theorem dX0_join_2_62 : decode cX0_join_2 62 = .ok (.aload 5, 2) := dk_25 5 (dk_at dksX0_join_2_2 16 rfl rfl)
theorem dX0_join_2_64 : decode cX0_join_2 64 = .ok (.invokestatic 62, 3) := dk_184 0 62 (dk_at dksX0_join_2_2 18 rfl rfl)
theorem dX0_join_2_67 : decode cX0_join_2 67 = .ok (.if_icmp .ne 11, 3) := dk_160 0 11 (dk_at dksX0_join_2_2 21 rfl rfl)
theorem dX0_join_2_70 : decode cX0_join_2 70 = .ok (.aload 4, 2) := dk_25 4 (dk_at dksX0_join_2_3 0 rfl rfl)
theorem dX0_join_2_72 : decode cX0_join_2 72 = .ok (.instanceof 58, 3) := dk_193 0 58 (dk_at dksX0_join_2_3 2 rfl rfl)
theorem dX0_join_2_75 : decode cX0_join_2 75 = .ok (.ifCond .eq 9, 3) := dk_153 0 9 (dk_at dksX0_join_2_3 5 rfl rfl)
theorem dX0_join_2_78 : decode cX0_join_2 78 = .ok (.aload_n 0, 1) := dk_42 (dk_at dksX0_join_2_3 8 rfl rfl)
theorem dX0_join_2_79 : decode cX0_join_2 79 = .ok (.iconst 2, 1) := dk_5 (dk_at dksX0_join_2_3 9 rfl rfl)
theorem dX0_join_2_80 : decode cX0_join_2 80 = .ok (.invokevirtual 47, 3) := dk_182 0 47 (dk_at dksX0_join_2_3 10 rfl rfl)
theorem dX0_join_2_83 : decode cX0_join_2 83 = .ok (.ireturn, 1) := dk_172 (dk_at dksX0_join_2_3 13 rfl rfl)
theorem dX0_join_2_84 : decode cX0_join_2 84 = .ok (.aload 4, 2) := dk_25 4 (dk_at dksX0_join_2_3 14 rfl rfl)
theorem dX0_join_2_86 : decode cX0_join_2 86 = .ok (.invokestatic 147, 3) := dk_184 0 147 (dk_at dksX0_join_2_3 16 rfl rfl)
theorem dX0_join_2_89 : decode cX0_join_2 89 = .ok (.aload 5, 2) := dk_25 5 (dk_at dksX0_join_2_3 19 rfl rfl)
theorem dX0_join_2_91 : decode cX0_join_2 91 = .ok (.invokestatic 147, 3) := dk_184 0 147 (dk_at dksX0_join_2_3 21 rfl rfl)
theorem dX0_join_2_94 : decode cX0_join_2 94 = .ok (.if_icmp .eq 10, 3) := dk_159 0 10 (dk_at dksX0_join_2_4 0 rfl rfl)
theorem dX0_join_2_97 : decode cX0_join_2 97 = .ok (.aload_n 0, 1) := dk_42 (dk_at dksX0_join_2_4 3 rfl rfl)
theorem dX0_join_2_98 : decode cX0_join_2 98 = .ok (.bipush 10, 2) := dk_16 10 (dk_at dksX0_join_2_4 4 rfl rfl)
theorem dX0_join_2_100 : decode cX0_join_2 100 = .ok (.invokevirtual 47, 3) := dk_182 0 47 (dk_at dksX0_join_2_4 6 rfl rfl)
theorem dX0_join_2_103 : decode cX0_join_2 103 = .ok (.ireturn, 1) := dk_172 (dk_at dksX0_join_2_4 9 rfl rfl)
theorem dX0_join_2_104 : decode cX0_join_2 104 = .ok (.iconst 0, 1) := dk_3 (dk_at dksX0_join_2_4 10 rfl rfl)
theorem dX0_join_2_105 : decode cX0_join_2 105 = .ok (.istore 6, 2) := dk_54 6 (dk_at dksX0_join_2_4 11 rfl rfl)
theorem dX0_join_2_107 : decode cX0_join_2 107 = .ok (.aload_n 0, 1) := dk_42 (dk_at dksX0_join_2_4 13 rfl rfl)
theorem dX0_join_2_108 : decode cX0_join_2 108 = .ok (.iconst 0, 1) := dk_3 (dk_at dksX0_join_2_4 14 rfl rfl)
theorem dX0_join_2_109 : decode cX0_join_2 109 = .ok (.putfield 44, 3) := dk_181 0 44 (dk_at dksX0_join_2_4 15 rfl rfl)
theorem dX0_join_2_112 : decode cX0_join_2 112 = .ok (.iload 6, 2) := dk_21 6 (dk_at dksX0_join_2_4 18 rfl rfl)
theorem dX0_join_2_114 : decode cX0_join_2 114 = .ok (.aload 4, 2) := dk_25 4 (dk_at dksX0_join_2_4 20 rfl rfl)
theorem dX0_join_2_116 : decode cX0_join_2 116 = .ok (.invokestatic 147, 3) := dk_184 0 147 (dk_at dksX0_join_2_5 0 rfl rfl)
theorem dX0_join_2_119 : decode cX0_join_2 119 = .ok (.if_icmp .ge 24, 3) := dk_162 0 24 (dk_at dksX0_join_2_5 3 rfl rfl)
theorem dX0_join_2_122 : decode cX0_join_2 122 = .ok (.aload 4, 2) := dk_25 4 (dk_at dksX0_join_2_5 6 rfl rfl)
theorem dX0_join_2_124 : decode cX0_join_2 124 = .ok (.iload 6, 2) := dk_21 6 (dk_at dksX0_join_2_5 8 rfl rfl)
theorem dX0_join_2_126 : decode cX0_join_2 126 = .ok (.aload 5, 2) := dk_25 5 (dk_at dksX0_join_2_5 10 rfl rfl)
theorem dX0_join_2_128 : decode cX0_join_2 128 = .ok (.iload 6, 2) := dk_21 6 (dk_at dksX0_join_2_5 12 rfl rfl)
theorem dX0_join_2_130 : decode cX0_join_2 130 = .ok (.invokestatic 84, 3) := dk_184 0 84 (dk_at dksX0_join_2_5 14 rfl rfl)
theorem dX0_join_2_133 : decode cX0_join_2 133 = .ok (.iload_n 3, 1) := dk_29 (dk_at dksX0_join_2_5 17 rfl rfl)
theorem dX0_join_2_134 : decode cX0_join_2 134 = .ok (.invokestatic 195, 3) := dk_184 0 195 (dk_at dksX0_join_2_5 18 rfl rfl)
theorem dX0_join_2_137 : decode cX0_join_2 137 = .ok (.iinc 6 1, 3) := dk_132 6 1 (dk_at dksX0_join_2_5 21 rfl rfl)
theorem dX0_join_2_140 : decode cX0_join_2 140 = .ok (.goto (-28), 3) := dk_167 255 228 (dk_at dksX0_join_2_6 0 rfl rfl)
theorem dX0_join_2_143 : decode cX0_join_2 143 = .ok (.goto 21, 3) := dk_167 0 21 (dk_at dksX0_join_2_6 3 rfl rfl)
theorem dX0_join_2_146 : decode cX0_join_2 146 = .ok (.astore 7, 2) := dk_58 7 (dk_at dksX0_join_2_6 6 rfl rfl)
theorem dX0_join_2_148 : decode cX0_join_2 148 = .ok (.aload_n 0, 1) := dk_42 (dk_at dksX0_join_2_6 8 rfl rfl)
theorem dX0_join_2_149 : decode cX0_join_2 149 = .ok (.iconst 1, 1) := dk_4 (dk_at dksX0_join_2_6 9 rfl rfl)
theorem dX0_join_2_150 : decode cX0_join_2 150 = .ok (.putfield 44, 3) := dk_181 0 44 (dk_at dksX0_join_2_6 10 rfl rfl)
theorem dX0_join_2_153 : decode cX0_join_2 153 = .ok (.goto 11, 3) := dk_167 0 11 (dk_at dksX0_join_2_6 13 rfl rfl)
theorem dX0_join_2_156 : decode cX0_join_2 156 = .ok (.astore 7, 2) := dk_58 7 (dk_at dksX0_join_2_6 16 rfl rfl)
theorem dX0_join_2_158 : decode cX0_join_2 158 = .ok (.aload_n 0, 1) := dk_42 (dk_at dksX0_join_2_6 18 rfl rfl)
theorem dX0_join_2_159 : decode cX0_join_2 159 = .ok (.bipush 6, 2) := dk_16 6 (dk_at dksX0_join_2_6 19 rfl rfl)
theorem dX0_join_2_161 : decode cX0_join_2 161 = .ok (.putfield 44, 3) := dk_181 0 44 (dk_at dksX0_join_2_6 21 rfl rfl)
theorem dX0_join_2_164 : decode cX0_join_2 164 = .ok (.iload 6, 2) := dk_21 6 (dk_at dksX0_join_2_7 0 rfl rfl)
theorem dX0_join_2_166 : decode cX0_join_2 166 = .ok (.ireturn, 1) := dk_172 (dk_at dksX0_join_2_7 2 rfl rfl)
abbrev cX0_sum : ByteArray := prog_1_method_39_code
def yX0_sum : MethodName := ⟨RX0, "sum", "(I)J"⟩
def dkwX0_sum_4 : List UInt8 := [167, 255, 222, 33, 173]
abbrev dktX0_sum_4 : List UInt8 := dkwX0_sum_4 ++ []
def dkwX0_sum_3 : List UInt8 := [50, 58, 8, 33, 25, 8, 199, 0, 7, 9, 167, 0, 8, 25, 8, 184, 0, 201, 97, 66, 132, 7, 1]
abbrev dktX0_sum_3 : List UInt8 := dkwX0_sum_3 ++ dktX0_sum_4
def dkwX0_sum_2 : List UInt8 := [192, 0, 58, 58, 5, 25, 5, 190, 54, 6, 3, 54, 7, 21, 7, 21, 6, 162, 0, 33, 25, 5, 21, 7]
abbrev dktX0_sum_2 : List UInt8 := dkwX0_sum_2 ++ dktX0_sum_3
def dkwX0_sum_1 : List UInt8 := [180, 0, 101, 77, 42, 3, 181, 0, 44, 44, 193, 0, 58, 154, 0, 8, 44, 184, 0, 201, 173, 9, 66, 44]
abbrev dktX0_sum_1 : List UInt8 := dkwX0_sum_1 ++ dktX0_sum_2
def dkwX0_sum_0 : List UInt8 := [42, 27, 182, 0, 143, 154, 0, 11, 42, 16, 7, 182, 0, 47, 133, 173, 42, 180, 0, 18, 27, 50]
abbrev dktX0_sum_0 : List UInt8 := dkwX0_sum_0 ++ dktX0_sum_1
theorem dksX0_sum_0 : cX0_sum.data.toList.drop 0 = dktX0_sum_0 := by decide +kernel
theorem dksX0_sum_1 : cX0_sum.data.toList.drop 22 = dktX0_sum_1 := dk_seg dksX0_sum_0 22 rfl rfl
theorem dksX0_sum_2 : cX0_sum.data.toList.drop 46 = dktX0_sum_2 := dk_seg dksX0_sum_1 24 rfl rfl
theorem dksX0_sum_3 : cX0_sum.data.toList.drop 70 = dktX0_sum_3 := dk_seg dksX0_sum_2 24 rfl rfl
theorem dksX0_sum_4 : cX0_sum.data.toList.drop 93 = dktX0_sum_4 := dk_seg dksX0_sum_3 23 rfl rfl
theorem dX0_sum_0 : decode cX0_sum 0 = .ok (.aload_n 0, 1) := dk_42 (dk_at dksX0_sum_0 0 rfl rfl)
theorem dX0_sum_1 : decode cX0_sum 1 = .ok (.iload_n 1, 1) := dk_27 (dk_at dksX0_sum_0 1 rfl rfl)
theorem dX0_sum_2 : decode cX0_sum 2 = .ok (.invokevirtual 143, 3) := dk_182 0 143 (dk_at dksX0_sum_0 2 rfl rfl)
theorem dX0_sum_5 : decode cX0_sum 5 = .ok (.ifCond .ne 11, 3) := dk_154 0 11 (dk_at dksX0_sum_0 5 rfl rfl)
theorem dX0_sum_8 : decode cX0_sum 8 = .ok (.aload_n 0, 1) := dk_42 (dk_at dksX0_sum_0 8 rfl rfl)
theorem dX0_sum_9 : decode cX0_sum 9 = .ok (.bipush 7, 2) := dk_16 7 (dk_at dksX0_sum_0 9 rfl rfl)
theorem dX0_sum_11 : decode cX0_sum 11 = .ok (.invokevirtual 47, 3) := dk_182 0 47 (dk_at dksX0_sum_0 11 rfl rfl)
theorem dX0_sum_14 : decode cX0_sum 14 = .ok (.i2l, 1) := dk_133 (dk_at dksX0_sum_0 14 rfl rfl)
theorem dX0_sum_15 : decode cX0_sum 15 = .ok (.lreturn, 1) := dk_173 (dk_at dksX0_sum_0 15 rfl rfl)
theorem dX0_sum_16 : decode cX0_sum 16 = .ok (.aload_n 0, 1) := dk_42 (dk_at dksX0_sum_0 16 rfl rfl)
theorem dX0_sum_17 : decode cX0_sum 17 = .ok (.getfield 18, 3) := dk_180 0 18 (dk_at dksX0_sum_0 17 rfl rfl)
theorem dX0_sum_20 : decode cX0_sum 20 = .ok (.iload_n 1, 1) := dk_27 (dk_at dksX0_sum_0 20 rfl rfl)
theorem dX0_sum_21 : decode cX0_sum 21 = .ok (.aaload, 1) := dk_50 (dk_at dksX0_sum_0 21 rfl rfl)
theorem dX0_sum_22 : decode cX0_sum 22 = .ok (.getfield 101, 3) := dk_180 0 101 (dk_at dksX0_sum_1 0 rfl rfl)
theorem dX0_sum_25 : decode cX0_sum 25 = .ok (.astore_n 2, 1) := dk_77 (dk_at dksX0_sum_1 3 rfl rfl)
theorem dX0_sum_26 : decode cX0_sum 26 = .ok (.aload_n 0, 1) := dk_42 (dk_at dksX0_sum_1 4 rfl rfl)
theorem dX0_sum_27 : decode cX0_sum 27 = .ok (.iconst 0, 1) := dk_3 (dk_at dksX0_sum_1 5 rfl rfl)
theorem dX0_sum_28 : decode cX0_sum 28 = .ok (.putfield 44, 3) := dk_181 0 44 (dk_at dksX0_sum_1 6 rfl rfl)
theorem dX0_sum_31 : decode cX0_sum 31 = .ok (.aload_n 2, 1) := dk_44 (dk_at dksX0_sum_1 9 rfl rfl)
theorem dX0_sum_32 : decode cX0_sum 32 = .ok (.instanceof 58, 3) := dk_193 0 58 (dk_at dksX0_sum_1 10 rfl rfl)
theorem dX0_sum_35 : decode cX0_sum 35 = .ok (.ifCond .ne 8, 3) := dk_154 0 8 (dk_at dksX0_sum_1 13 rfl rfl)
theorem dX0_sum_38 : decode cX0_sum 38 = .ok (.aload_n 2, 1) := dk_44 (dk_at dksX0_sum_1 16 rfl rfl)
theorem dX0_sum_39 : decode cX0_sum 39 = .ok (.invokestatic 201, 3) := dk_184 0 201 (dk_at dksX0_sum_1 17 rfl rfl)
theorem dX0_sum_42 : decode cX0_sum 42 = .ok (.lreturn, 1) := dk_173 (dk_at dksX0_sum_1 20 rfl rfl)
theorem dX0_sum_43 : decode cX0_sum 43 = .ok (.lconst 0, 1) := dk_9 (dk_at dksX0_sum_1 21 rfl rfl)
theorem dX0_sum_44 : decode cX0_sum 44 = .ok (.lstore_n 3, 1) := dk_66 (dk_at dksX0_sum_1 22 rfl rfl)
theorem dX0_sum_45 : decode cX0_sum 45 = .ok (.aload_n 2, 1) := dk_44 (dk_at dksX0_sum_1 23 rfl rfl)
theorem dX0_sum_46 : decode cX0_sum 46 = .ok (.checkcast 58, 3) := dk_192 0 58 (dk_at dksX0_sum_2 0 rfl rfl)
theorem dX0_sum_49 : decode cX0_sum 49 = .ok (.astore 5, 2) := dk_58 5 (dk_at dksX0_sum_2 3 rfl rfl)
theorem dX0_sum_51 : decode cX0_sum 51 = .ok (.aload 5, 2) := dk_25 5 (dk_at dksX0_sum_2 5 rfl rfl)
theorem dX0_sum_53 : decode cX0_sum 53 = .ok (.arraylength, 1) := dk_190 (dk_at dksX0_sum_2 7 rfl rfl)
theorem dX0_sum_54 : decode cX0_sum 54 = .ok (.istore 6, 2) := dk_54 6 (dk_at dksX0_sum_2 8 rfl rfl)
theorem dX0_sum_56 : decode cX0_sum 56 = .ok (.iconst 0, 1) := dk_3 (dk_at dksX0_sum_2 10 rfl rfl)
theorem dX0_sum_57 : decode cX0_sum 57 = .ok (.istore 7, 2) := dk_54 7 (dk_at dksX0_sum_2 11 rfl rfl)
theorem dX0_sum_59 : decode cX0_sum 59 = .ok (.iload 7, 2) := dk_21 7 (dk_at dksX0_sum_2 13 rfl rfl)
theorem dX0_sum_61 : decode cX0_sum 61 = .ok (.iload 6, 2) := dk_21 6 (dk_at dksX0_sum_2 15 rfl rfl)
theorem dX0_sum_63 : decode cX0_sum 63 = .ok (.if_icmp .ge 33, 3) := dk_162 0 33 (dk_at dksX0_sum_2 17 rfl rfl)
theorem dX0_sum_66 : decode cX0_sum 66 = .ok (.aload 5, 2) := dk_25 5 (dk_at dksX0_sum_2 20 rfl rfl)
theorem dX0_sum_68 : decode cX0_sum 68 = .ok (.iload 7, 2) := dk_21 7 (dk_at dksX0_sum_2 22 rfl rfl)
theorem dX0_sum_70 : decode cX0_sum 70 = .ok (.aaload, 1) := dk_50 (dk_at dksX0_sum_3 0 rfl rfl)
theorem dX0_sum_71 : decode cX0_sum 71 = .ok (.astore 8, 2) := dk_58 8 (dk_at dksX0_sum_3 1 rfl rfl)
theorem dX0_sum_73 : decode cX0_sum 73 = .ok (.lload_n 3, 1) := dk_33 (dk_at dksX0_sum_3 3 rfl rfl)
theorem dX0_sum_74 : decode cX0_sum 74 = .ok (.aload 8, 2) := dk_25 8 (dk_at dksX0_sum_3 4 rfl rfl)
theorem dX0_sum_76 : decode cX0_sum 76 = .ok (.ifnonnull 7, 3) := dk_199 0 7 (dk_at dksX0_sum_3 6 rfl rfl)
theorem dX0_sum_79 : decode cX0_sum 79 = .ok (.lconst 0, 1) := dk_9 (dk_at dksX0_sum_3 9 rfl rfl)
theorem dX0_sum_80 : decode cX0_sum 80 = .ok (.goto 8, 3) := dk_167 0 8 (dk_at dksX0_sum_3 10 rfl rfl)
theorem dX0_sum_83 : decode cX0_sum 83 = .ok (.aload 8, 2) := dk_25 8 (dk_at dksX0_sum_3 13 rfl rfl)
theorem dX0_sum_85 : decode cX0_sum 85 = .ok (.invokestatic 201, 3) := dk_184 0 201 (dk_at dksX0_sum_3 15 rfl rfl)
theorem dX0_sum_88 : decode cX0_sum 88 = .ok (.ladd, 1) := dk_97 (dk_at dksX0_sum_3 18 rfl rfl)
theorem dX0_sum_89 : decode cX0_sum 89 = .ok (.lstore_n 3, 1) := dk_66 (dk_at dksX0_sum_3 19 rfl rfl)
theorem dX0_sum_90 : decode cX0_sum 90 = .ok (.iinc 7 1, 3) := dk_132 7 1 (dk_at dksX0_sum_3 20 rfl rfl)
theorem dX0_sum_93 : decode cX0_sum 93 = .ok (.goto (-34), 3) := dk_167 255 222 (dk_at dksX0_sum_4 0 rfl rfl)
theorem dX0_sum_96 : decode cX0_sum 96 = .ok (.lload_n 3, 1) := dk_33 (dk_at dksX0_sum_4 3 rfl rfl)
theorem dX0_sum_97 : decode cX0_sum 97 = .ok (.lreturn, 1) := dk_173 (dk_at dksX0_sum_4 4 rfl rfl)
abbrev cX0_sumOf : ByteArray := prog_1_method_38_code
def yX0_sumOf : MethodName := ⟨RX0, "sumOf", "(Ljava/lang/Object;)J"⟩
def dkwX0_sumOf_2 : List UInt8 := [184, 0, 84, 97, 64, 132, 3, 1, 167, 255, 205, 31, 173]
abbrev dktX0_sumOf_2 : List UInt8 := dkwX0_sumOf_2 ++ []
def dkwX0_sumOf_1 : List UInt8 := [50, 199, 0, 7, 4, 167, 0, 4, 3, 54, 4, 31, 21, 4, 153, 0, 7, 9, 167, 0, 8, 42, 29]
abbrev dktX0_sumOf_1 : List UInt8 := dkwX0_sumOf_1 ++ dktX0_sumOf_2
def dkwX0_sumOf_0 : List UInt8 := [9, 64, 3, 62, 29, 42, 184, 0, 147, 162, 0, 49, 42, 193, 0, 66, 153, 0, 16, 42, 192, 0, 66, 29]
abbrev dktX0_sumOf_0 : List UInt8 := dkwX0_sumOf_0 ++ dktX0_sumOf_1
theorem dksX0_sumOf_0 : cX0_sumOf.data.toList.drop 0 = dktX0_sumOf_0 := by decide +kernel
theorem dksX0_sumOf_1 : cX0_sumOf.data.toList.drop 24 = dktX0_sumOf_1 := dk_seg dksX0_sumOf_0 24 rfl rfl
theorem dksX0_sumOf_2 : cX0_sumOf.data.toList.drop 47 = dktX0_sumOf_2 := dk_seg dksX0_sumOf_1 23 rfl rfl
theorem dX0_sumOf_0 : decode cX0_sumOf 0 = .ok (.lconst 0, 1) := dk_9 (dk_at dksX0_sumOf_0 0 rfl rfl)
theorem dX0_sumOf_1 : decode cX0_sumOf 1 = .ok (.lstore_n 1, 1) := dk_64 (dk_at dksX0_sumOf_0 1 rfl rfl)
theorem dX0_sumOf_2 : decode cX0_sumOf 2 = .ok (.iconst 0, 1) := dk_3 (dk_at dksX0_sumOf_0 2 rfl rfl)
theorem dX0_sumOf_3 : decode cX0_sumOf 3 = .ok (.istore_n 3, 1) := dk_62 (dk_at dksX0_sumOf_0 3 rfl rfl)
theorem dX0_sumOf_4 : decode cX0_sumOf 4 = .ok (.iload_n 3, 1) := dk_29 (dk_at dksX0_sumOf_0 4 rfl rfl)
theorem dX0_sumOf_5 : decode cX0_sumOf 5 = .ok (.aload_n 0, 1) := dk_42 (dk_at dksX0_sumOf_0 5 rfl rfl)
theorem dX0_sumOf_6 : decode cX0_sumOf 6 = .ok (.invokestatic 147, 3) := dk_184 0 147 (dk_at dksX0_sumOf_0 6 rfl rfl)
theorem dX0_sumOf_9 : decode cX0_sumOf 9 = .ok (.if_icmp .ge 49, 3) := dk_162 0 49 (dk_at dksX0_sumOf_0 9 rfl rfl)
theorem dX0_sumOf_12 : decode cX0_sumOf 12 = .ok (.aload_n 0, 1) := dk_42 (dk_at dksX0_sumOf_0 12 rfl rfl)
theorem dX0_sumOf_13 : decode cX0_sumOf 13 = .ok (.instanceof 66, 3) := dk_193 0 66 (dk_at dksX0_sumOf_0 13 rfl rfl)
theorem dX0_sumOf_16 : decode cX0_sumOf 16 = .ok (.ifCond .eq 16, 3) := dk_153 0 16 (dk_at dksX0_sumOf_0 16 rfl rfl)
theorem dX0_sumOf_19 : decode cX0_sumOf 19 = .ok (.aload_n 0, 1) := dk_42 (dk_at dksX0_sumOf_0 19 rfl rfl)
theorem dX0_sumOf_20 : decode cX0_sumOf 20 = .ok (.checkcast 66, 3) := dk_192 0 66 (dk_at dksX0_sumOf_0 20 rfl rfl)
theorem dX0_sumOf_23 : decode cX0_sumOf 23 = .ok (.iload_n 3, 1) := dk_29 (dk_at dksX0_sumOf_0 23 rfl rfl)
theorem dX0_sumOf_24 : decode cX0_sumOf 24 = .ok (.aaload, 1) := dk_50 (dk_at dksX0_sumOf_1 0 rfl rfl)
theorem dX0_sumOf_25 : decode cX0_sumOf 25 = .ok (.ifnonnull 7, 3) := dk_199 0 7 (dk_at dksX0_sumOf_1 1 rfl rfl)
theorem dX0_sumOf_28 : decode cX0_sumOf 28 = .ok (.iconst 1, 1) := dk_4 (dk_at dksX0_sumOf_1 4 rfl rfl)
theorem dX0_sumOf_29 : decode cX0_sumOf 29 = .ok (.goto 4, 3) := dk_167 0 4 (dk_at dksX0_sumOf_1 5 rfl rfl)
theorem dX0_sumOf_32 : decode cX0_sumOf 32 = .ok (.iconst 0, 1) := dk_3 (dk_at dksX0_sumOf_1 8 rfl rfl)
theorem dX0_sumOf_33 : decode cX0_sumOf 33 = .ok (.istore 4, 2) := dk_54 4 (dk_at dksX0_sumOf_1 9 rfl rfl)
theorem dX0_sumOf_35 : decode cX0_sumOf 35 = .ok (.lload_n 1, 1) := dk_31 (dk_at dksX0_sumOf_1 11 rfl rfl)
theorem dX0_sumOf_36 : decode cX0_sumOf 36 = .ok (.iload 4, 2) := dk_21 4 (dk_at dksX0_sumOf_1 12 rfl rfl)
theorem dX0_sumOf_38 : decode cX0_sumOf 38 = .ok (.ifCond .eq 7, 3) := dk_153 0 7 (dk_at dksX0_sumOf_1 14 rfl rfl)
theorem dX0_sumOf_41 : decode cX0_sumOf 41 = .ok (.lconst 0, 1) := dk_9 (dk_at dksX0_sumOf_1 17 rfl rfl)
theorem dX0_sumOf_42 : decode cX0_sumOf 42 = .ok (.goto 8, 3) := dk_167 0 8 (dk_at dksX0_sumOf_1 18 rfl rfl)
theorem dX0_sumOf_45 : decode cX0_sumOf 45 = .ok (.aload_n 0, 1) := dk_42 (dk_at dksX0_sumOf_1 21 rfl rfl)
theorem dX0_sumOf_46 : decode cX0_sumOf 46 = .ok (.iload_n 3, 1) := dk_29 (dk_at dksX0_sumOf_1 22 rfl rfl)
theorem dX0_sumOf_47 : decode cX0_sumOf 47 = .ok (.invokestatic 84, 3) := dk_184 0 84 (dk_at dksX0_sumOf_2 0 rfl rfl)
theorem dX0_sumOf_50 : decode cX0_sumOf 50 = .ok (.ladd, 1) := dk_97 (dk_at dksX0_sumOf_2 3 rfl rfl)
theorem dX0_sumOf_51 : decode cX0_sumOf 51 = .ok (.lstore_n 1, 1) := dk_64 (dk_at dksX0_sumOf_2 4 rfl rfl)
theorem dX0_sumOf_52 : decode cX0_sumOf 52 = .ok (.iinc 3 1, 3) := dk_132 3 1 (dk_at dksX0_sumOf_2 5 rfl rfl)
theorem dX0_sumOf_55 : decode cX0_sumOf 55 = .ok (.goto (-51), 3) := dk_167 255 205 (dk_at dksX0_sumOf_2 8 rfl rfl)
theorem dX0_sumOf_58 : decode cX0_sumOf 58 = .ok (.lload_n 1, 1) := dk_31 (dk_at dksX0_sumOf_2 11 rfl rfl)
theorem dX0_sumOf_59 : decode cX0_sumOf 59 = .ok (.lreturn, 1) := dk_173 (dk_at dksX0_sumOf_2 12 rfl rfl)
abbrev cX0_mean : ByteArray := prog_1_method_40_code
def yX0_mean : MethodName := ⟨RX0, "mean", "(I)J"⟩
def dkwX0_mean_2 : List UInt8 := [184, 0, 147, 133, 109, 66, 42, 3, 181, 0, 44, 33, 173, 78, 42, 16, 6, 182, 0, 47, 133, 173]
abbrev dktX0_mean_2 : List UInt8 := dkwX0_mean_2 ++ []
def dkwX0_mean_1 : List UInt8 := [180, 0, 101, 77, 44, 184, 0, 62, 6, 161, 0, 10, 42, 5, 182, 0, 47, 133, 173, 44, 184, 0, 201, 44]
abbrev dktX0_mean_1 : List UInt8 := dkwX0_mean_1 ++ dktX0_mean_2
def dkwX0_mean_0 : List UInt8 := [42, 27, 182, 0, 143, 154, 0, 11, 42, 16, 7, 182, 0, 47, 133, 173, 42, 180, 0, 18, 27, 50]
abbrev dktX0_mean_0 : List UInt8 := dkwX0_mean_0 ++ dktX0_mean_1
theorem dksX0_mean_0 : cX0_mean.data.toList.drop 0 = dktX0_mean_0 := by decide +kernel
theorem dksX0_mean_1 : cX0_mean.data.toList.drop 22 = dktX0_mean_1 := dk_seg dksX0_mean_0 22 rfl rfl
theorem dksX0_mean_2 : cX0_mean.data.toList.drop 46 = dktX0_mean_2 := dk_seg dksX0_mean_1 24 rfl rfl
theorem dX0_mean_0 : decode cX0_mean 0 = .ok (.aload_n 0, 1) := dk_42 (dk_at dksX0_mean_0 0 rfl rfl)
theorem dX0_mean_1 : decode cX0_mean 1 = .ok (.iload_n 1, 1) := dk_27 (dk_at dksX0_mean_0 1 rfl rfl)
theorem dX0_mean_2 : decode cX0_mean 2 = .ok (.invokevirtual 143, 3) := dk_182 0 143 (dk_at dksX0_mean_0 2 rfl rfl)
theorem dX0_mean_5 : decode cX0_mean 5 = .ok (.ifCond .ne 11, 3) := dk_154 0 11 (dk_at dksX0_mean_0 5 rfl rfl)
theorem dX0_mean_8 : decode cX0_mean 8 = .ok (.aload_n 0, 1) := dk_42 (dk_at dksX0_mean_0 8 rfl rfl)
theorem dX0_mean_9 : decode cX0_mean 9 = .ok (.bipush 7, 2) := dk_16 7 (dk_at dksX0_mean_0 9 rfl rfl)
theorem dX0_mean_11 : decode cX0_mean 11 = .ok (.invokevirtual 47, 3) := dk_182 0 47 (dk_at dksX0_mean_0 11 rfl rfl)
theorem dX0_mean_14 : decode cX0_mean 14 = .ok (.i2l, 1) := dk_133 (dk_at dksX0_mean_0 14 rfl rfl)
theorem dX0_mean_15 : decode cX0_mean 15 = .ok (.lreturn, 1) := dk_173 (dk_at dksX0_mean_0 15 rfl rfl)
theorem dX0_mean_16 : decode cX0_mean 16 = .ok (.aload_n 0, 1) := dk_42 (dk_at dksX0_mean_0 16 rfl rfl)
theorem dX0_mean_17 : decode cX0_mean 17 = .ok (.getfield 18, 3) := dk_180 0 18 (dk_at dksX0_mean_0 17 rfl rfl)
theorem dX0_mean_20 : decode cX0_mean 20 = .ok (.iload_n 1, 1) := dk_27 (dk_at dksX0_mean_0 20 rfl rfl)
theorem dX0_mean_21 : decode cX0_mean 21 = .ok (.aaload, 1) := dk_50 (dk_at dksX0_mean_0 21 rfl rfl)
theorem dX0_mean_22 : decode cX0_mean 22 = .ok (.getfield 101, 3) := dk_180 0 101 (dk_at dksX0_mean_1 0 rfl rfl)
theorem dX0_mean_25 : decode cX0_mean 25 = .ok (.astore_n 2, 1) := dk_77 (dk_at dksX0_mean_1 3 rfl rfl)
theorem dX0_mean_26 : decode cX0_mean 26 = .ok (.aload_n 2, 1) := dk_44 (dk_at dksX0_mean_1 4 rfl rfl)
theorem dX0_mean_27 : decode cX0_mean 27 = .ok (.invokestatic 62, 3) := dk_184 0 62 (dk_at dksX0_mean_1 5 rfl rfl)
theorem dX0_mean_30 : decode cX0_mean 30 = .ok (.iconst 3, 1) := dk_6 (dk_at dksX0_mean_1 8 rfl rfl)
theorem dX0_mean_31 : decode cX0_mean 31 = .ok (.if_icmp .lt 10, 3) := dk_161 0 10 (dk_at dksX0_mean_1 9 rfl rfl)
theorem dX0_mean_34 : decode cX0_mean 34 = .ok (.aload_n 0, 1) := dk_42 (dk_at dksX0_mean_1 12 rfl rfl)
theorem dX0_mean_35 : decode cX0_mean 35 = .ok (.iconst 2, 1) := dk_5 (dk_at dksX0_mean_1 13 rfl rfl)
theorem dX0_mean_36 : decode cX0_mean 36 = .ok (.invokevirtual 47, 3) := dk_182 0 47 (dk_at dksX0_mean_1 14 rfl rfl)
theorem dX0_mean_39 : decode cX0_mean 39 = .ok (.i2l, 1) := dk_133 (dk_at dksX0_mean_1 17 rfl rfl)
theorem dX0_mean_40 : decode cX0_mean 40 = .ok (.lreturn, 1) := dk_173 (dk_at dksX0_mean_1 18 rfl rfl)
theorem dX0_mean_41 : decode cX0_mean 41 = .ok (.aload_n 2, 1) := dk_44 (dk_at dksX0_mean_1 19 rfl rfl)
theorem dX0_mean_42 : decode cX0_mean 42 = .ok (.invokestatic 201, 3) := dk_184 0 201 (dk_at dksX0_mean_1 20 rfl rfl)
theorem dX0_mean_45 : decode cX0_mean 45 = .ok (.aload_n 2, 1) := dk_44 (dk_at dksX0_mean_1 23 rfl rfl)
theorem dX0_mean_46 : decode cX0_mean 46 = .ok (.invokestatic 147, 3) := dk_184 0 147 (dk_at dksX0_mean_2 0 rfl rfl)
theorem dX0_mean_49 : decode cX0_mean 49 = .ok (.i2l, 1) := dk_133 (dk_at dksX0_mean_2 3 rfl rfl)
theorem dX0_mean_50 : decode cX0_mean 50 = .ok (.ldiv, 1) := dk_109 (dk_at dksX0_mean_2 4 rfl rfl)
theorem dX0_mean_51 : decode cX0_mean 51 = .ok (.lstore_n 3, 1) := dk_66 (dk_at dksX0_mean_2 5 rfl rfl)
theorem dX0_mean_52 : decode cX0_mean 52 = .ok (.aload_n 0, 1) := dk_42 (dk_at dksX0_mean_2 6 rfl rfl)
theorem dX0_mean_53 : decode cX0_mean 53 = .ok (.iconst 0, 1) := dk_3 (dk_at dksX0_mean_2 7 rfl rfl)
theorem dX0_mean_54 : decode cX0_mean 54 = .ok (.putfield 44, 3) := dk_181 0 44 (dk_at dksX0_mean_2 8 rfl rfl)
theorem dX0_mean_57 : decode cX0_mean 57 = .ok (.lload_n 3, 1) := dk_33 (dk_at dksX0_mean_2 11 rfl rfl)
theorem dX0_mean_58 : decode cX0_mean 58 = .ok (.lreturn, 1) := dk_173 (dk_at dksX0_mean_2 12 rfl rfl)
theorem dX0_mean_59 : decode cX0_mean 59 = .ok (.astore_n 3, 1) := dk_78 (dk_at dksX0_mean_2 13 rfl rfl)
theorem dX0_mean_60 : decode cX0_mean 60 = .ok (.aload_n 0, 1) := dk_42 (dk_at dksX0_mean_2 14 rfl rfl)
theorem dX0_mean_61 : decode cX0_mean 61 = .ok (.bipush 6, 2) := dk_16 6 (dk_at dksX0_mean_2 15 rfl rfl)
theorem dX0_mean_63 : decode cX0_mean 63 = .ok (.invokevirtual 47, 3) := dk_182 0 47 (dk_at dksX0_mean_2 17 rfl rfl)
theorem dX0_mean_66 : decode cX0_mean 66 = .ok (.i2l, 1) := dk_133 (dk_at dksX0_mean_2 20 rfl rfl)
theorem dX0_mean_67 : decode cX0_mean 67 = .ok (.lreturn, 1) := dk_173 (dk_at dksX0_mean_2 21 rfl rfl)
abbrev cX0_about : ByteArray := prog_1_method_42_code
def yX0_about : MethodName := ⟨RX0, "about", "(II)I"⟩
def dkwX0_about_5 : List UInt8 := [160, 0, 13, 45, 180, 0, 105, 21, 4, 46, 167, 0, 10, 45, 180, 0, 111, 21, 4, 46, 182, 0, 114, 172]
abbrev dktX0_about_5 : List UInt8 := dkwX0_about_5 ++ []
def dkwX0_about_4 : List UInt8 := [54, 4, 21, 4, 45, 180, 0, 108, 161, 0, 10, 42, 16, 9, 182, 0, 47, 172, 42, 28, 5, 112, 4]
abbrev dktX0_about_4 : List UInt8 := dkwX0_about_4 ++ dktX0_about_5
def dkwX0_about_3 : List UInt8 := [167, 0, 15, 42, 180, 0, 18, 27, 50, 180, 0, 101, 184, 0, 205, 182, 0, 114, 172, 28, 6, 100, 5, 108]
abbrev dktX0_about_3 : List UInt8 := dkwX0_about_3 ++ dktX0_about_4
def dkwX0_about_2 : List UInt8 := [42, 180, 0, 18, 27, 50, 180, 0, 101, 184, 0, 62, 167, 0, 27, 28, 4, 160, 0, 10, 45, 180, 0, 108]
abbrev dktX0_about_2 : List UInt8 := dkwX0_about_2 ++ dktX0_about_3
def dkwX0_about_1 : List UInt8 := [182, 0, 47, 172, 42, 180, 0, 18, 27, 50, 180, 0, 96, 78, 28, 6, 162, 0, 51, 42, 28, 154, 0, 18]
abbrev dktX0_about_1 : List UInt8 := dkwX0_about_1 ++ dktX0_about_2
def dkwX0_about_0 : List UInt8 := [28, 155, 0, 9, 28, 16, 8, 164, 0, 6, 18, 119, 172, 42, 27, 182, 0, 143, 154, 0, 10, 42, 16, 7]
abbrev dktX0_about_0 : List UInt8 := dkwX0_about_0 ++ dktX0_about_1
theorem dksX0_about_0 : cX0_about.data.toList.drop 0 = dktX0_about_0 := by decide +kernel
theorem dksX0_about_1 : cX0_about.data.toList.drop 24 = dktX0_about_1 := dk_seg dksX0_about_0 24 rfl rfl
theorem dksX0_about_2 : cX0_about.data.toList.drop 48 = dktX0_about_2 := dk_seg dksX0_about_1 24 rfl rfl
theorem dksX0_about_3 : cX0_about.data.toList.drop 72 = dktX0_about_3 := dk_seg dksX0_about_2 24 rfl rfl
theorem dksX0_about_4 : cX0_about.data.toList.drop 96 = dktX0_about_4 := dk_seg dksX0_about_3 24 rfl rfl
theorem dksX0_about_5 : cX0_about.data.toList.drop 119 = dktX0_about_5 := dk_seg dksX0_about_4 23 rfl rfl
theorem dX0_about_0 : decode cX0_about 0 = .ok (.iload_n 2, 1) := dk_28 (dk_at dksX0_about_0 0 rfl rfl)
theorem dX0_about_1 : decode cX0_about 1 = .ok (.ifCond .lt 9, 3) := dk_155 0 9 (dk_at dksX0_about_0 1 rfl rfl)
theorem dX0_about_4 : decode cX0_about 4 = .ok (.iload_n 2, 1) := dk_28 (dk_at dksX0_about_0 4 rfl rfl)
theorem dX0_about_5 : decode cX0_about 5 = .ok (.bipush 8, 2) := dk_16 8 (dk_at dksX0_about_0 5 rfl rfl)
theorem dX0_about_7 : decode cX0_about 7 = .ok (.if_icmp .le 6, 3) := dk_164 0 6 (dk_at dksX0_about_0 7 rfl rfl)
theorem dX0_about_10 : decode cX0_about 10 = .ok (.ldc 119, 2) := dk_18 119 (dk_at dksX0_about_0 10 rfl rfl)
theorem dX0_about_12 : decode cX0_about 12 = .ok (.ireturn, 1) := dk_172 (dk_at dksX0_about_0 12 rfl rfl)
theorem dX0_about_13 : decode cX0_about 13 = .ok (.aload_n 0, 1) := dk_42 (dk_at dksX0_about_0 13 rfl rfl)
theorem dX0_about_14 : decode cX0_about 14 = .ok (.iload_n 1, 1) := dk_27 (dk_at dksX0_about_0 14 rfl rfl)
theorem dX0_about_15 : decode cX0_about 15 = .ok (.invokevirtual 143, 3) := dk_182 0 143 (dk_at dksX0_about_0 15 rfl rfl)
theorem dX0_about_18 : decode cX0_about 18 = .ok (.ifCond .ne 10, 3) := dk_154 0 10 (dk_at dksX0_about_0 18 rfl rfl)
theorem dX0_about_21 : decode cX0_about 21 = .ok (.aload_n 0, 1) := dk_42 (dk_at dksX0_about_0 21 rfl rfl)
theorem dX0_about_22 : decode cX0_about 22 = .ok (.bipush 7, 2) := dk_16 7 (dk_at dksX0_about_0 22 rfl rfl)
theorem dX0_about_24 : decode cX0_about 24 = .ok (.invokevirtual 47, 3) := dk_182 0 47 (dk_at dksX0_about_1 0 rfl rfl)
theorem dX0_about_27 : decode cX0_about 27 = .ok (.ireturn, 1) := dk_172 (dk_at dksX0_about_1 3 rfl rfl)
theorem dX0_about_28 : decode cX0_about 28 = .ok (.aload_n 0, 1) := dk_42 (dk_at dksX0_about_1 4 rfl rfl)
theorem dX0_about_29 : decode cX0_about 29 = .ok (.getfield 18, 3) := dk_180 0 18 (dk_at dksX0_about_1 5 rfl rfl)
theorem dX0_about_32 : decode cX0_about 32 = .ok (.iload_n 1, 1) := dk_27 (dk_at dksX0_about_1 8 rfl rfl)
theorem dX0_about_33 : decode cX0_about 33 = .ok (.aaload, 1) := dk_50 (dk_at dksX0_about_1 9 rfl rfl)
theorem dX0_about_34 : decode cX0_about 34 = .ok (.getfield 96, 3) := dk_180 0 96 (dk_at dksX0_about_1 10 rfl rfl)
theorem dX0_about_37 : decode cX0_about 37 = .ok (.astore_n 3, 1) := dk_78 (dk_at dksX0_about_1 13 rfl rfl)
theorem dX0_about_38 : decode cX0_about 38 = .ok (.iload_n 2, 1) := dk_28 (dk_at dksX0_about_1 14 rfl rfl)
theorem dX0_about_39 : decode cX0_about 39 = .ok (.iconst 3, 1) := dk_6 (dk_at dksX0_about_1 15 rfl rfl)
theorem dX0_about_40 : decode cX0_about 40 = .ok (.if_icmp .ge 51, 3) := dk_162 0 51 (dk_at dksX0_about_1 16 rfl rfl)
theorem dX0_about_43 : decode cX0_about 43 = .ok (.aload_n 0, 1) := dk_42 (dk_at dksX0_about_1 19 rfl rfl)
theorem dX0_about_44 : decode cX0_about 44 = .ok (.iload_n 2, 1) := dk_28 (dk_at dksX0_about_1 20 rfl rfl)
theorem dX0_about_45 : decode cX0_about 45 = .ok (.ifCond .ne 18, 3) := dk_154 0 18 (dk_at dksX0_about_1 21 rfl rfl)
theorem dX0_about_48 : decode cX0_about 48 = .ok (.aload_n 0, 1) := dk_42 (dk_at dksX0_about_2 0 rfl rfl)
theorem dX0_about_49 : decode cX0_about 49 = .ok (.getfield 18, 3) := dk_180 0 18 (dk_at dksX0_about_2 1 rfl rfl)
theorem dX0_about_52 : decode cX0_about 52 = .ok (.iload_n 1, 1) := dk_27 (dk_at dksX0_about_2 4 rfl rfl)
theorem dX0_about_53 : decode cX0_about 53 = .ok (.aaload, 1) := dk_50 (dk_at dksX0_about_2 5 rfl rfl)
theorem dX0_about_54 : decode cX0_about 54 = .ok (.getfield 101, 3) := dk_180 0 101 (dk_at dksX0_about_2 6 rfl rfl)
theorem dX0_about_57 : decode cX0_about 57 = .ok (.invokestatic 62, 3) := dk_184 0 62 (dk_at dksX0_about_2 9 rfl rfl)
theorem dX0_about_60 : decode cX0_about 60 = .ok (.goto 27, 3) := dk_167 0 27 (dk_at dksX0_about_2 12 rfl rfl)
theorem dX0_about_63 : decode cX0_about 63 = .ok (.iload_n 2, 1) := dk_28 (dk_at dksX0_about_2 15 rfl rfl)
theorem dX0_about_64 : decode cX0_about 64 = .ok (.iconst 1, 1) := dk_4 (dk_at dksX0_about_2 16 rfl rfl)
theorem dX0_about_65 : decode cX0_about 65 = .ok (.if_icmp .ne 10, 3) := dk_160 0 10 (dk_at dksX0_about_2 17 rfl rfl)
theorem dX0_about_68 : decode cX0_about 68 = .ok (.aload_n 3, 1) := dk_45 (dk_at dksX0_about_2 20 rfl rfl)
theorem dX0_about_69 : decode cX0_about 69 = .ok (.getfield 108, 3) := dk_180 0 108 (dk_at dksX0_about_2 21 rfl rfl)
theorem dX0_about_72 : decode cX0_about 72 = .ok (.goto 15, 3) := dk_167 0 15 (dk_at dksX0_about_3 0 rfl rfl)
theorem dX0_about_75 : decode cX0_about 75 = .ok (.aload_n 0, 1) := dk_42 (dk_at dksX0_about_3 3 rfl rfl)
theorem dX0_about_76 : decode cX0_about 76 = .ok (.getfield 18, 3) := dk_180 0 18 (dk_at dksX0_about_3 4 rfl rfl)
theorem dX0_about_79 : decode cX0_about 79 = .ok (.iload_n 1, 1) := dk_27 (dk_at dksX0_about_3 7 rfl rfl)
theorem dX0_about_80 : decode cX0_about 80 = .ok (.aaload, 1) := dk_50 (dk_at dksX0_about_3 8 rfl rfl)
theorem dX0_about_81 : decode cX0_about 81 = .ok (.getfield 101, 3) := dk_180 0 101 (dk_at dksX0_about_3 9 rfl rfl)
theorem dX0_about_84 : decode cX0_about 84 = .ok (.invokestatic 205, 3) := dk_184 0 205 (dk_at dksX0_about_3 12 rfl rfl)
theorem dX0_about_87 : decode cX0_about 87 = .ok (.invokevirtual 114, 3) := dk_182 0 114 (dk_at dksX0_about_3 15 rfl rfl)
theorem dX0_about_90 : decode cX0_about 90 = .ok (.ireturn, 1) := dk_172 (dk_at dksX0_about_3 18 rfl rfl)
theorem dX0_about_91 : decode cX0_about 91 = .ok (.iload_n 2, 1) := dk_28 (dk_at dksX0_about_3 19 rfl rfl)
theorem dX0_about_92 : decode cX0_about 92 = .ok (.iconst 3, 1) := dk_6 (dk_at dksX0_about_3 20 rfl rfl)
theorem dX0_about_93 : decode cX0_about 93 = .ok (.isub, 1) := dk_100 (dk_at dksX0_about_3 21 rfl rfl)
theorem dX0_about_94 : decode cX0_about 94 = .ok (.iconst 2, 1) := dk_5 (dk_at dksX0_about_3 22 rfl rfl)
theorem dX0_about_95 : decode cX0_about 95 = .ok (.idiv, 1) := dk_108 (dk_at dksX0_about_3 23 rfl rfl)
theorem dX0_about_96 : decode cX0_about 96 = .ok (.istore 4, 2) := dk_54 4 (dk_at dksX0_about_4 0 rfl rfl)
theorem dX0_about_98 : decode cX0_about 98 = .ok (.iload 4, 2) := dk_21 4 (dk_at dksX0_about_4 2 rfl rfl)
theorem dX0_about_100 : decode cX0_about 100 = .ok (.aload_n 3, 1) := dk_45 (dk_at dksX0_about_4 4 rfl rfl)
theorem dX0_about_101 : decode cX0_about 101 = .ok (.getfield 108, 3) := dk_180 0 108 (dk_at dksX0_about_4 5 rfl rfl)
theorem dX0_about_104 : decode cX0_about 104 = .ok (.if_icmp .lt 10, 3) := dk_161 0 10 (dk_at dksX0_about_4 8 rfl rfl)
theorem dX0_about_107 : decode cX0_about 107 = .ok (.aload_n 0, 1) := dk_42 (dk_at dksX0_about_4 11 rfl rfl)
theorem dX0_about_108 : decode cX0_about 108 = .ok (.bipush 9, 2) := dk_16 9 (dk_at dksX0_about_4 12 rfl rfl)
theorem dX0_about_110 : decode cX0_about 110 = .ok (.invokevirtual 47, 3) := dk_182 0 47 (dk_at dksX0_about_4 14 rfl rfl)
theorem dX0_about_113 : decode cX0_about 113 = .ok (.ireturn, 1) := dk_172 (dk_at dksX0_about_4 17 rfl rfl)
theorem dX0_about_114 : decode cX0_about 114 = .ok (.aload_n 0, 1) := dk_42 (dk_at dksX0_about_4 18 rfl rfl)
theorem dX0_about_115 : decode cX0_about 115 = .ok (.iload_n 2, 1) := dk_28 (dk_at dksX0_about_4 19 rfl rfl)
theorem dX0_about_116 : decode cX0_about 116 = .ok (.iconst 2, 1) := dk_5 (dk_at dksX0_about_4 20 rfl rfl)
theorem dX0_about_117 : decode cX0_about 117 = .ok (.irem, 1) := dk_112 (dk_at dksX0_about_4 21 rfl rfl)
theorem dX0_about_118 : decode cX0_about 118 = .ok (.iconst 1, 1) := dk_4 (dk_at dksX0_about_4 22 rfl rfl)
theorem dX0_about_119 : decode cX0_about 119 = .ok (.if_icmp .ne 13, 3) := dk_160 0 13 (dk_at dksX0_about_5 0 rfl rfl)
theorem dX0_about_122 : decode cX0_about 122 = .ok (.aload_n 3, 1) := dk_45 (dk_at dksX0_about_5 3 rfl rfl)
theorem dX0_about_123 : decode cX0_about 123 = .ok (.getfield 105, 3) := dk_180 0 105 (dk_at dksX0_about_5 4 rfl rfl)
theorem dX0_about_126 : decode cX0_about 126 = .ok (.iload 4, 2) := dk_21 4 (dk_at dksX0_about_5 7 rfl rfl)
theorem dX0_about_128 : decode cX0_about 128 = .ok (.iaload, 1) := dk_46 (dk_at dksX0_about_5 9 rfl rfl)
theorem dX0_about_129 : decode cX0_about 129 = .ok (.goto 10, 3) := dk_167 0 10 (dk_at dksX0_about_5 10 rfl rfl)
theorem dX0_about_132 : decode cX0_about 132 = .ok (.aload_n 3, 1) := dk_45 (dk_at dksX0_about_5 13 rfl rfl)
theorem dX0_about_133 : decode cX0_about 133 = .ok (.getfield 111, 3) := dk_180 0 111 (dk_at dksX0_about_5 14 rfl rfl)
theorem dX0_about_136 : decode cX0_about 136 = .ok (.iload 4, 2) := dk_21 4 (dk_at dksX0_about_5 17 rfl rfl)
theorem dX0_about_138 : decode cX0_about 138 = .ok (.iaload, 1) := dk_46 (dk_at dksX0_about_5 19 rfl rfl)
theorem dX0_about_139 : decode cX0_about 139 = .ok (.invokevirtual 114, 3) := dk_182 0 114 (dk_at dksX0_about_5 20 rfl rfl)
theorem dX0_about_142 : decode cX0_about 142 = .ok (.ireturn, 1) := dk_172 (dk_at dksX0_about_5 23 rfl rfl)
abbrev cX0_itemsOf : ByteArray := prog_1_method_41_code
def yX0_itemsOf : MethodName := ⟨RX0, "itemsOf", "(Ljava/lang/Object;)I"⟩
def dkwX0_itemsOf_2 : List UInt8 := [25, 5, 190, 96, 60, 132, 4, 1, 167, 255, 226, 27, 172]
abbrev dktX0_itemsOf_2 : List UInt8 := dkwX0_itemsOf_2 ++ []
def dkwX0_itemsOf_1 : List UInt8 := [54, 4, 21, 4, 29, 162, 0, 30, 44, 21, 4, 50, 58, 5, 27, 25, 5, 199, 0, 7, 3, 167, 0, 6]
abbrev dktX0_itemsOf_1 : List UInt8 := dkwX0_itemsOf_1 ++ dktX0_itemsOf_2
def dkwX0_itemsOf_0 : List UInt8 := [42, 193, 0, 58, 154, 0, 8, 42, 184, 0, 147, 172, 3, 60, 42, 192, 0, 58, 77, 44, 190, 62, 3]
abbrev dktX0_itemsOf_0 : List UInt8 := dkwX0_itemsOf_0 ++ dktX0_itemsOf_1
theorem dksX0_itemsOf_0 : cX0_itemsOf.data.toList.drop 0 = dktX0_itemsOf_0 := by decide +kernel
theorem dksX0_itemsOf_1 : cX0_itemsOf.data.toList.drop 23 = dktX0_itemsOf_1 := dk_seg dksX0_itemsOf_0 23 rfl rfl
theorem dksX0_itemsOf_2 : cX0_itemsOf.data.toList.drop 47 = dktX0_itemsOf_2 := dk_seg dksX0_itemsOf_1 24 rfl rfl
theorem dX0_itemsOf_0 : decode cX0_itemsOf 0 = .ok (.aload_n 0, 1) := dk_42 (dk_at dksX0_itemsOf_0 0 rfl rfl)
theorem dX0_itemsOf_1 : decode cX0_itemsOf 1 = .ok (.instanceof 58, 3) := dk_193 0 58 (dk_at dksX0_itemsOf_0 1 rfl rfl)
theorem dX0_itemsOf_4 : decode cX0_itemsOf 4 = .ok (.ifCond .ne 8, 3) := dk_154 0 8 (dk_at dksX0_itemsOf_0 4 rfl rfl)
theorem dX0_itemsOf_7 : decode cX0_itemsOf 7 = .ok (.aload_n 0, 1) := dk_42 (dk_at dksX0_itemsOf_0 7 rfl rfl)
theorem dX0_itemsOf_8 : decode cX0_itemsOf 8 = .ok (.invokestatic 147, 3) := dk_184 0 147 (dk_at dksX0_itemsOf_0 8 rfl rfl)
theorem dX0_itemsOf_11 : decode cX0_itemsOf 11 = .ok (.ireturn, 1) := dk_172 (dk_at dksX0_itemsOf_0 11 rfl rfl)
theorem dX0_itemsOf_12 : decode cX0_itemsOf 12 = .ok (.iconst 0, 1) := dk_3 (dk_at dksX0_itemsOf_0 12 rfl rfl)
theorem dX0_itemsOf_13 : decode cX0_itemsOf 13 = .ok (.istore_n 1, 1) := dk_60 (dk_at dksX0_itemsOf_0 13 rfl rfl)
theorem dX0_itemsOf_14 : decode cX0_itemsOf 14 = .ok (.aload_n 0, 1) := dk_42 (dk_at dksX0_itemsOf_0 14 rfl rfl)
theorem dX0_itemsOf_15 : decode cX0_itemsOf 15 = .ok (.checkcast 58, 3) := dk_192 0 58 (dk_at dksX0_itemsOf_0 15 rfl rfl)
theorem dX0_itemsOf_18 : decode cX0_itemsOf 18 = .ok (.astore_n 2, 1) := dk_77 (dk_at dksX0_itemsOf_0 18 rfl rfl)
theorem dX0_itemsOf_19 : decode cX0_itemsOf 19 = .ok (.aload_n 2, 1) := dk_44 (dk_at dksX0_itemsOf_0 19 rfl rfl)
theorem dX0_itemsOf_20 : decode cX0_itemsOf 20 = .ok (.arraylength, 1) := dk_190 (dk_at dksX0_itemsOf_0 20 rfl rfl)
theorem dX0_itemsOf_21 : decode cX0_itemsOf 21 = .ok (.istore_n 3, 1) := dk_62 (dk_at dksX0_itemsOf_0 21 rfl rfl)
theorem dX0_itemsOf_22 : decode cX0_itemsOf 22 = .ok (.iconst 0, 1) := dk_3 (dk_at dksX0_itemsOf_0 22 rfl rfl)
theorem dX0_itemsOf_23 : decode cX0_itemsOf 23 = .ok (.istore 4, 2) := dk_54 4 (dk_at dksX0_itemsOf_1 0 rfl rfl)
theorem dX0_itemsOf_25 : decode cX0_itemsOf 25 = .ok (.iload 4, 2) := dk_21 4 (dk_at dksX0_itemsOf_1 2 rfl rfl)
theorem dX0_itemsOf_27 : decode cX0_itemsOf 27 = .ok (.iload_n 3, 1) := dk_29 (dk_at dksX0_itemsOf_1 4 rfl rfl)
theorem dX0_itemsOf_28 : decode cX0_itemsOf 28 = .ok (.if_icmp .ge 30, 3) := dk_162 0 30 (dk_at dksX0_itemsOf_1 5 rfl rfl)
theorem dX0_itemsOf_31 : decode cX0_itemsOf 31 = .ok (.aload_n 2, 1) := dk_44 (dk_at dksX0_itemsOf_1 8 rfl rfl)
theorem dX0_itemsOf_32 : decode cX0_itemsOf 32 = .ok (.iload 4, 2) := dk_21 4 (dk_at dksX0_itemsOf_1 9 rfl rfl)
theorem dX0_itemsOf_34 : decode cX0_itemsOf 34 = .ok (.aaload, 1) := dk_50 (dk_at dksX0_itemsOf_1 11 rfl rfl)
theorem dX0_itemsOf_35 : decode cX0_itemsOf 35 = .ok (.astore 5, 2) := dk_58 5 (dk_at dksX0_itemsOf_1 12 rfl rfl)
theorem dX0_itemsOf_37 : decode cX0_itemsOf 37 = .ok (.iload_n 1, 1) := dk_27 (dk_at dksX0_itemsOf_1 14 rfl rfl)
theorem dX0_itemsOf_38 : decode cX0_itemsOf 38 = .ok (.aload 5, 2) := dk_25 5 (dk_at dksX0_itemsOf_1 15 rfl rfl)
theorem dX0_itemsOf_40 : decode cX0_itemsOf 40 = .ok (.ifnonnull 7, 3) := dk_199 0 7 (dk_at dksX0_itemsOf_1 17 rfl rfl)
theorem dX0_itemsOf_43 : decode cX0_itemsOf 43 = .ok (.iconst 0, 1) := dk_3 (dk_at dksX0_itemsOf_1 20 rfl rfl)
theorem dX0_itemsOf_44 : decode cX0_itemsOf 44 = .ok (.goto 6, 3) := dk_167 0 6 (dk_at dksX0_itemsOf_1 21 rfl rfl)
theorem dX0_itemsOf_47 : decode cX0_itemsOf 47 = .ok (.aload 5, 2) := dk_25 5 (dk_at dksX0_itemsOf_2 0 rfl rfl)
theorem dX0_itemsOf_49 : decode cX0_itemsOf 49 = .ok (.arraylength, 1) := dk_190 (dk_at dksX0_itemsOf_2 2 rfl rfl)
theorem dX0_itemsOf_50 : decode cX0_itemsOf 50 = .ok (.iadd, 1) := dk_96 (dk_at dksX0_itemsOf_2 3 rfl rfl)
theorem dX0_itemsOf_51 : decode cX0_itemsOf 51 = .ok (.istore_n 1, 1) := dk_60 (dk_at dksX0_itemsOf_2 4 rfl rfl)
theorem dX0_itemsOf_52 : decode cX0_itemsOf 52 = .ok (.iinc 4 1, 3) := dk_132 4 1 (dk_at dksX0_itemsOf_2 5 rfl rfl)
theorem dX0_itemsOf_55 : decode cX0_itemsOf 55 = .ok (.goto (-30), 3) := dk_167 255 226 (dk_at dksX0_itemsOf_2 8 rfl rfl)
theorem dX0_itemsOf_58 : decode cX0_itemsOf 58 = .ok (.iload_n 1, 1) := dk_27 (dk_at dksX0_itemsOf_2 11 rfl rfl)
theorem dX0_itemsOf_59 : decode cX0_itemsOf 59 = .ok (.ireturn, 1) := dk_172 (dk_at dksX0_itemsOf_2 12 rfl rfl)
abbrev cX0_same : ByteArray := prog_1_method_44_code
def yX0_same : MethodName := ⟨RX0, "same", "(II)I"⟩
def dkwX0_same_4 : List UInt8 := [4, 167, 0, 4, 3, 182, 0, 114, 172]
abbrev dktX0_same_4 : List UInt8 := dkwX0_same_4 ++ []
def dkwX0_same_3 : List UInt8 := [45, 192, 0, 58, 25, 4, 192, 0, 58, 184, 0, 208, 153, 0, 16, 167, 0, 9, 45, 25, 4, 166, 0, 7]
abbrev dktX0_same_3 : List UInt8 := dkwX0_same_3 ++ dktX0_same_4
def dkwX0_same_2 : List UInt8 := [153, 0, 15, 25, 4, 193, 0, 58, 153, 0, 7, 4, 167, 0, 4, 3, 54, 5, 42, 21, 5, 153, 0, 21]
abbrev dktX0_same_2 : List UInt8 := dkwX0_same_2 ++ dktX0_same_3
def dkwX0_same_1 : List UInt8 := [180, 0, 18, 27, 50, 180, 0, 101, 78, 42, 180, 0, 18, 28, 50, 180, 0, 101, 58, 4, 45, 193, 0, 58]
abbrev dktX0_same_1 : List UInt8 := dkwX0_same_1 ++ dktX0_same_2
def dkwX0_same_0 : List UInt8 := [42, 27, 182, 0, 143, 153, 0, 11, 42, 28, 182, 0, 143, 154, 0, 10, 42, 16, 7, 182, 0, 47, 172, 42]
abbrev dktX0_same_0 : List UInt8 := dkwX0_same_0 ++ dktX0_same_1
theorem dksX0_same_0 : cX0_same.data.toList.drop 0 = dktX0_same_0 := by decide +kernel
theorem dksX0_same_1 : cX0_same.data.toList.drop 24 = dktX0_same_1 := dk_seg dksX0_same_0 24 rfl rfl
theorem dksX0_same_2 : cX0_same.data.toList.drop 48 = dktX0_same_2 := dk_seg dksX0_same_1 24 rfl rfl
theorem dksX0_same_3 : cX0_same.data.toList.drop 72 = dktX0_same_3 := dk_seg dksX0_same_2 24 rfl rfl
theorem dksX0_same_4 : cX0_same.data.toList.drop 96 = dktX0_same_4 := dk_seg dksX0_same_3 24 rfl rfl
theorem dX0_same_0 : decode cX0_same 0 = .ok (.aload_n 0, 1) := dk_42 (dk_at dksX0_same_0 0 rfl rfl)
theorem dX0_same_1 : decode cX0_same 1 = .ok (.iload_n 1, 1) := dk_27 (dk_at dksX0_same_0 1 rfl rfl)
theorem dX0_same_2 : decode cX0_same 2 = .ok (.invokevirtual 143, 3) := dk_182 0 143 (dk_at dksX0_same_0 2 rfl rfl)
theorem dX0_same_5 : decode cX0_same 5 = .ok (.ifCond .eq 11, 3) := dk_153 0 11 (dk_at dksX0_same_0 5 rfl rfl)
theorem dX0_same_8 : decode cX0_same 8 = .ok (.aload_n 0, 1) := dk_42 (dk_at dksX0_same_0 8 rfl rfl)
theorem dX0_same_9 : decode cX0_same 9 = .ok (.iload_n 2, 1) := dk_28 (dk_at dksX0_same_0 9 rfl rfl)
theorem dX0_same_10 : decode cX0_same 10 = .ok (.invokevirtual 143, 3) := dk_182 0 143 (dk_at dksX0_same_0 10 rfl rfl)
theorem dX0_same_13 : decode cX0_same 13 = .ok (.ifCond .ne 10, 3) := dk_154 0 10 (dk_at dksX0_same_0 13 rfl rfl)
theorem dX0_same_16 : decode cX0_same 16 = .ok (.aload_n 0, 1) := dk_42 (dk_at dksX0_same_0 16 rfl rfl)
theorem dX0_same_17 : decode cX0_same 17 = .ok (.bipush 7, 2) := dk_16 7 (dk_at dksX0_same_0 17 rfl rfl)
theorem dX0_same_19 : decode cX0_same 19 = .ok (.invokevirtual 47, 3) := dk_182 0 47 (dk_at dksX0_same_0 19 rfl rfl)
theorem dX0_same_22 : decode cX0_same 22 = .ok (.ireturn, 1) := dk_172 (dk_at dksX0_same_0 22 rfl rfl)
theorem dX0_same_23 : decode cX0_same 23 = .ok (.aload_n 0, 1) := dk_42 (dk_at dksX0_same_0 23 rfl rfl)
theorem dX0_same_24 : decode cX0_same 24 = .ok (.getfield 18, 3) := dk_180 0 18 (dk_at dksX0_same_1 0 rfl rfl)
theorem dX0_same_27 : decode cX0_same 27 = .ok (.iload_n 1, 1) := dk_27 (dk_at dksX0_same_1 3 rfl rfl)
theorem dX0_same_28 : decode cX0_same 28 = .ok (.aaload, 1) := dk_50 (dk_at dksX0_same_1 4 rfl rfl)
theorem dX0_same_29 : decode cX0_same 29 = .ok (.getfield 101, 3) := dk_180 0 101 (dk_at dksX0_same_1 5 rfl rfl)
theorem dX0_same_32 : decode cX0_same 32 = .ok (.astore_n 3, 1) := dk_78 (dk_at dksX0_same_1 8 rfl rfl)
theorem dX0_same_33 : decode cX0_same 33 = .ok (.aload_n 0, 1) := dk_42 (dk_at dksX0_same_1 9 rfl rfl)
theorem dX0_same_34 : decode cX0_same 34 = .ok (.getfield 18, 3) := dk_180 0 18 (dk_at dksX0_same_1 10 rfl rfl)
theorem dX0_same_37 : decode cX0_same 37 = .ok (.iload_n 2, 1) := dk_28 (dk_at dksX0_same_1 13 rfl rfl)
theorem dX0_same_38 : decode cX0_same 38 = .ok (.aaload, 1) := dk_50 (dk_at dksX0_same_1 14 rfl rfl)
theorem dX0_same_39 : decode cX0_same 39 = .ok (.getfield 101, 3) := dk_180 0 101 (dk_at dksX0_same_1 15 rfl rfl)
theorem dX0_same_42 : decode cX0_same 42 = .ok (.astore 4, 2) := dk_58 4 (dk_at dksX0_same_1 18 rfl rfl)
theorem dX0_same_44 : decode cX0_same 44 = .ok (.aload_n 3, 1) := dk_45 (dk_at dksX0_same_1 20 rfl rfl)
theorem dX0_same_45 : decode cX0_same 45 = .ok (.instanceof 58, 3) := dk_193 0 58 (dk_at dksX0_same_1 21 rfl rfl)
theorem dX0_same_48 : decode cX0_same 48 = .ok (.ifCond .eq 15, 3) := dk_153 0 15 (dk_at dksX0_same_2 0 rfl rfl)
theorem dX0_same_51 : decode cX0_same 51 = .ok (.aload 4, 2) := dk_25 4 (dk_at dksX0_same_2 3 rfl rfl)
theorem dX0_same_53 : decode cX0_same 53 = .ok (.instanceof 58, 3) := dk_193 0 58 (dk_at dksX0_same_2 5 rfl rfl)
theorem dX0_same_56 : decode cX0_same 56 = .ok (.ifCond .eq 7, 3) := dk_153 0 7 (dk_at dksX0_same_2 8 rfl rfl)
theorem dX0_same_59 : decode cX0_same 59 = .ok (.iconst 1, 1) := dk_4 (dk_at dksX0_same_2 11 rfl rfl)
theorem dX0_same_60 : decode cX0_same 60 = .ok (.goto 4, 3) := dk_167 0 4 (dk_at dksX0_same_2 12 rfl rfl)
theorem dX0_same_63 : decode cX0_same 63 = .ok (.iconst 0, 1) := dk_3 (dk_at dksX0_same_2 15 rfl rfl)
theorem dX0_same_64 : decode cX0_same 64 = .ok (.istore 5, 2) := dk_54 5 (dk_at dksX0_same_2 16 rfl rfl)
theorem dX0_same_66 : decode cX0_same 66 = .ok (.aload_n 0, 1) := dk_42 (dk_at dksX0_same_2 18 rfl rfl)
theorem dX0_same_67 : decode cX0_same 67 = .ok (.iload 5, 2) := dk_21 5 (dk_at dksX0_same_2 19 rfl rfl)
theorem dX0_same_69 : decode cX0_same 69 = .ok (.ifCond .eq 21, 3) := dk_153 0 21 (dk_at dksX0_same_2 21 rfl rfl)
theorem dX0_same_72 : decode cX0_same 72 = .ok (.aload_n 3, 1) := dk_45 (dk_at dksX0_same_3 0 rfl rfl)
theorem dX0_same_73 : decode cX0_same 73 = .ok (.checkcast 58, 3) := dk_192 0 58 (dk_at dksX0_same_3 1 rfl rfl)
theorem dX0_same_76 : decode cX0_same 76 = .ok (.aload 4, 2) := dk_25 4 (dk_at dksX0_same_3 4 rfl rfl)
theorem dX0_same_78 : decode cX0_same 78 = .ok (.checkcast 58, 3) := dk_192 0 58 (dk_at dksX0_same_3 6 rfl rfl)
theorem dX0_same_81 : decode cX0_same 81 = .ok (.invokestatic 208, 3) := dk_184 0 208 (dk_at dksX0_same_3 9 rfl rfl)
theorem dX0_same_84 : decode cX0_same 84 = .ok (.ifCond .eq 16, 3) := dk_153 0 16 (dk_at dksX0_same_3 12 rfl rfl)
theorem dX0_same_87 : decode cX0_same 87 = .ok (.goto 9, 3) := dk_167 0 9 (dk_at dksX0_same_3 15 rfl rfl)
theorem dX0_same_90 : decode cX0_same 90 = .ok (.aload_n 3, 1) := dk_45 (dk_at dksX0_same_3 18 rfl rfl)
theorem dX0_same_91 : decode cX0_same 91 = .ok (.aload 4, 2) := dk_25 4 (dk_at dksX0_same_3 19 rfl rfl)
theorem dX0_same_93 : decode cX0_same 93 = .ok (.if_acmp .ne 7, 3) := dk_166 0 7 (dk_at dksX0_same_3 21 rfl rfl)
theorem dX0_same_96 : decode cX0_same 96 = .ok (.iconst 1, 1) := dk_4 (dk_at dksX0_same_4 0 rfl rfl)
theorem dX0_same_97 : decode cX0_same 97 = .ok (.goto 4, 3) := dk_167 0 4 (dk_at dksX0_same_4 1 rfl rfl)
theorem dX0_same_100 : decode cX0_same 100 = .ok (.iconst 0, 1) := dk_3 (dk_at dksX0_same_4 4 rfl rfl)
theorem dX0_same_101 : decode cX0_same 101 = .ok (.invokevirtual 114, 3) := dk_182 0 114 (dk_at dksX0_same_4 5 rfl rfl)
theorem dX0_same_104 : decode cX0_same 104 = .ok (.ireturn, 1) := dk_172 (dk_at dksX0_same_4 8 rfl rfl)
abbrev cX0_sameRows : ByteArray := prog_1_method_43_code
def yX0_sameRows : MethodName := ⟨RX0, "sameRows", "([[I[[I)Z"⟩
def dkwX0_sameRows_2 : List UInt8 := [28, 172]
abbrev dktX0_sameRows_2 : List UInt8 := dkwX0_sameRows_2 ++ []
def dkwX0_sameRows_1 : List UInt8 := [162, 0, 24, 42, 29, 50, 43, 29, 50, 166, 0, 7, 4, 167, 0, 4, 3, 61, 132, 3, 1, 167, 255, 228]
abbrev dktX0_sameRows_1 : List UInt8 := dkwX0_sameRows_1 ++ dktX0_sameRows_2
def dkwX0_sameRows_0 : List UInt8 := [42, 190, 43, 190, 160, 0, 7, 4, 167, 0, 4, 3, 61, 3, 62, 28, 153, 0, 30, 29, 42, 190]
abbrev dktX0_sameRows_0 : List UInt8 := dkwX0_sameRows_0 ++ dktX0_sameRows_1
theorem dksX0_sameRows_0 : cX0_sameRows.data.toList.drop 0 = dktX0_sameRows_0 := by decide +kernel
theorem dksX0_sameRows_1 : cX0_sameRows.data.toList.drop 22 = dktX0_sameRows_1 := dk_seg dksX0_sameRows_0 22 rfl rfl
theorem dksX0_sameRows_2 : cX0_sameRows.data.toList.drop 46 = dktX0_sameRows_2 := dk_seg dksX0_sameRows_1 24 rfl rfl
theorem dX0_sameRows_0 : decode cX0_sameRows 0 = .ok (.aload_n 0, 1) := dk_42 (dk_at dksX0_sameRows_0 0 rfl rfl)
theorem dX0_sameRows_1 : decode cX0_sameRows 1 = .ok (.arraylength, 1) := dk_190 (dk_at dksX0_sameRows_0 1 rfl rfl)
theorem dX0_sameRows_2 : decode cX0_sameRows 2 = .ok (.aload_n 1, 1) := dk_43 (dk_at dksX0_sameRows_0 2 rfl rfl)
theorem dX0_sameRows_3 : decode cX0_sameRows 3 = .ok (.arraylength, 1) := dk_190 (dk_at dksX0_sameRows_0 3 rfl rfl)
theorem dX0_sameRows_4 : decode cX0_sameRows 4 = .ok (.if_icmp .ne 7, 3) := dk_160 0 7 (dk_at dksX0_sameRows_0 4 rfl rfl)
theorem dX0_sameRows_7 : decode cX0_sameRows 7 = .ok (.iconst 1, 1) := dk_4 (dk_at dksX0_sameRows_0 7 rfl rfl)
theorem dX0_sameRows_8 : decode cX0_sameRows 8 = .ok (.goto 4, 3) := dk_167 0 4 (dk_at dksX0_sameRows_0 8 rfl rfl)
theorem dX0_sameRows_11 : decode cX0_sameRows 11 = .ok (.iconst 0, 1) := dk_3 (dk_at dksX0_sameRows_0 11 rfl rfl)
theorem dX0_sameRows_12 : decode cX0_sameRows 12 = .ok (.istore_n 2, 1) := dk_61 (dk_at dksX0_sameRows_0 12 rfl rfl)
theorem dX0_sameRows_13 : decode cX0_sameRows 13 = .ok (.iconst 0, 1) := dk_3 (dk_at dksX0_sameRows_0 13 rfl rfl)
theorem dX0_sameRows_14 : decode cX0_sameRows 14 = .ok (.istore_n 3, 1) := dk_62 (dk_at dksX0_sameRows_0 14 rfl rfl)
theorem dX0_sameRows_15 : decode cX0_sameRows 15 = .ok (.iload_n 2, 1) := dk_28 (dk_at dksX0_sameRows_0 15 rfl rfl)
theorem dX0_sameRows_16 : decode cX0_sameRows 16 = .ok (.ifCond .eq 30, 3) := dk_153 0 30 (dk_at dksX0_sameRows_0 16 rfl rfl)
theorem dX0_sameRows_19 : decode cX0_sameRows 19 = .ok (.iload_n 3, 1) := dk_29 (dk_at dksX0_sameRows_0 19 rfl rfl)
theorem dX0_sameRows_20 : decode cX0_sameRows 20 = .ok (.aload_n 0, 1) := dk_42 (dk_at dksX0_sameRows_0 20 rfl rfl)
theorem dX0_sameRows_21 : decode cX0_sameRows 21 = .ok (.arraylength, 1) := dk_190 (dk_at dksX0_sameRows_0 21 rfl rfl)
theorem dX0_sameRows_22 : decode cX0_sameRows 22 = .ok (.if_icmp .ge 24, 3) := dk_162 0 24 (dk_at dksX0_sameRows_1 0 rfl rfl)
theorem dX0_sameRows_25 : decode cX0_sameRows 25 = .ok (.aload_n 0, 1) := dk_42 (dk_at dksX0_sameRows_1 3 rfl rfl)
theorem dX0_sameRows_26 : decode cX0_sameRows 26 = .ok (.iload_n 3, 1) := dk_29 (dk_at dksX0_sameRows_1 4 rfl rfl)
theorem dX0_sameRows_27 : decode cX0_sameRows 27 = .ok (.aaload, 1) := dk_50 (dk_at dksX0_sameRows_1 5 rfl rfl)
theorem dX0_sameRows_28 : decode cX0_sameRows 28 = .ok (.aload_n 1, 1) := dk_43 (dk_at dksX0_sameRows_1 6 rfl rfl)
theorem dX0_sameRows_29 : decode cX0_sameRows 29 = .ok (.iload_n 3, 1) := dk_29 (dk_at dksX0_sameRows_1 7 rfl rfl)
theorem dX0_sameRows_30 : decode cX0_sameRows 30 = .ok (.aaload, 1) := dk_50 (dk_at dksX0_sameRows_1 8 rfl rfl)
theorem dX0_sameRows_31 : decode cX0_sameRows 31 = .ok (.if_acmp .ne 7, 3) := dk_166 0 7 (dk_at dksX0_sameRows_1 9 rfl rfl)
theorem dX0_sameRows_34 : decode cX0_sameRows 34 = .ok (.iconst 1, 1) := dk_4 (dk_at dksX0_sameRows_1 12 rfl rfl)
theorem dX0_sameRows_35 : decode cX0_sameRows 35 = .ok (.goto 4, 3) := dk_167 0 4 (dk_at dksX0_sameRows_1 13 rfl rfl)
theorem dX0_sameRows_38 : decode cX0_sameRows 38 = .ok (.iconst 0, 1) := dk_3 (dk_at dksX0_sameRows_1 16 rfl rfl)
theorem dX0_sameRows_39 : decode cX0_sameRows 39 = .ok (.istore_n 2, 1) := dk_61 (dk_at dksX0_sameRows_1 17 rfl rfl)
theorem dX0_sameRows_40 : decode cX0_sameRows 40 = .ok (.iinc 3 1, 3) := dk_132 3 1 (dk_at dksX0_sameRows_1 18 rfl rfl)
theorem dX0_sameRows_43 : decode cX0_sameRows 43 = .ok (.goto (-28), 3) := dk_167 255 228 (dk_at dksX0_sameRows_1 21 rfl rfl)
theorem dX0_sameRows_46 : decode cX0_sameRows 46 = .ok (.iload_n 2, 1) := dk_28 (dk_at dksX0_sameRows_2 0 rfl rfl)
theorem dX0_sameRows_47 : decode cX0_sameRows 47 = .ok (.ireturn, 1) := dk_172 (dk_at dksX0_sameRows_2 1 rfl rfl)
abbrev cX0_compare : ByteArray := prog_1_method_45_code
def yX0_compare : MethodName := ⟨RX0, "compare", "(II)I"⟩
def dkwX0_compare_6 : List UInt8 := [2, 167, 0, 19, 4, 167, 0, 15, 45, 184, 0, 147, 25, 4, 184, 0, 147, 184, 0, 215, 182, 0, 114, 172]
abbrev dktX0_compare_6 : List UInt8 := dkwX0_compare_6 ++ []
def dkwX0_compare_5 : List UInt8 := [21, 6, 21, 5, 162, 0, 28, 45, 21, 6, 184, 0, 84, 25, 4, 21, 6, 184, 0, 84, 148, 156, 0, 7]
abbrev dktX0_compare_5 : List UInt8 := dkwX0_compare_5 ++ dktX0_compare_6
def dkwX0_compare_4 : List UInt8 := [21, 6, 184, 0, 84, 25, 4, 21, 6, 184, 0, 84, 148, 154, 0, 9, 132, 6, 1, 167, 255, 229, 42]
abbrev dktX0_compare_4 : List UInt8 := dkwX0_compare_4 ++ dktX0_compare_5
def dkwX0_compare_3 : List UInt8 := [184, 0, 147, 25, 4, 184, 0, 147, 184, 0, 212, 54, 5, 3, 54, 6, 21, 6, 21, 5, 162, 0, 26, 45]
abbrev dktX0_compare_3 : List UInt8 := dkwX0_compare_3 ++ dktX0_compare_4
def dkwX0_compare_2 : List UInt8 := [6, 162, 0, 15, 45, 184, 0, 62, 25, 4, 184, 0, 62, 159, 0, 9, 42, 5, 182, 0, 47, 172, 45]
abbrev dktX0_compare_2 : List UInt8 := dkwX0_compare_2 ++ dktX0_compare_3
def dkwX0_compare_1 : List UInt8 := [180, 0, 18, 27, 50, 180, 0, 101, 78, 42, 180, 0, 18, 28, 50, 180, 0, 101, 58, 4, 45, 184, 0, 62]
abbrev dktX0_compare_1 : List UInt8 := dkwX0_compare_1 ++ dktX0_compare_2
def dkwX0_compare_0 : List UInt8 := [42, 27, 182, 0, 143, 153, 0, 11, 42, 28, 182, 0, 143, 154, 0, 10, 42, 16, 7, 182, 0, 47, 172, 42]
abbrev dktX0_compare_0 : List UInt8 := dkwX0_compare_0 ++ dktX0_compare_1
theorem dksX0_compare_0 : cX0_compare.data.toList.drop 0 = dktX0_compare_0 := by decide +kernel
theorem dksX0_compare_1 : cX0_compare.data.toList.drop 24 = dktX0_compare_1 := dk_seg dksX0_compare_0 24 rfl rfl
theorem dksX0_compare_2 : cX0_compare.data.toList.drop 48 = dktX0_compare_2 := dk_seg dksX0_compare_1 24 rfl rfl
theorem dksX0_compare_3 : cX0_compare.data.toList.drop 71 = dktX0_compare_3 := dk_seg dksX0_compare_2 23 rfl rfl
theorem dksX0_compare_4 : cX0_compare.data.toList.drop 95 = dktX0_compare_4 := dk_seg dksX0_compare_3 24 rfl rfl
theorem dksX0_compare_5 : cX0_compare.data.toList.drop 118 = dktX0_compare_5 := dk_seg dksX0_compare_4 23 rfl rfl
theorem dksX0_compare_6 : cX0_compare.data.toList.drop 142 = dktX0_compare_6 := dk_seg dksX0_compare_5 24 rfl rfl
theorem dX0_compare_0 : decode cX0_compare 0 = .ok (.aload_n 0, 1) := dk_42 (dk_at dksX0_compare_0 0 rfl rfl)
theorem dX0_compare_1 : decode cX0_compare 1 = .ok (.iload_n 1, 1) := dk_27 (dk_at dksX0_compare_0 1 rfl rfl)
theorem dX0_compare_2 : decode cX0_compare 2 = .ok (.invokevirtual 143, 3) := dk_182 0 143 (dk_at dksX0_compare_0 2 rfl rfl)
theorem dX0_compare_5 : decode cX0_compare 5 = .ok (.ifCond .eq 11, 3) := dk_153 0 11 (dk_at dksX0_compare_0 5 rfl rfl)
theorem dX0_compare_8 : decode cX0_compare 8 = .ok (.aload_n 0, 1) := dk_42 (dk_at dksX0_compare_0 8 rfl rfl)
theorem dX0_compare_9 : decode cX0_compare 9 = .ok (.iload_n 2, 1) := dk_28 (dk_at dksX0_compare_0 9 rfl rfl)
theorem dX0_compare_10 : decode cX0_compare 10 = .ok (.invokevirtual 143, 3) := dk_182 0 143 (dk_at dksX0_compare_0 10 rfl rfl)
theorem dX0_compare_13 : decode cX0_compare 13 = .ok (.ifCond .ne 10, 3) := dk_154 0 10 (dk_at dksX0_compare_0 13 rfl rfl)
theorem dX0_compare_16 : decode cX0_compare 16 = .ok (.aload_n 0, 1) := dk_42 (dk_at dksX0_compare_0 16 rfl rfl)
theorem dX0_compare_17 : decode cX0_compare 17 = .ok (.bipush 7, 2) := dk_16 7 (dk_at dksX0_compare_0 17 rfl rfl)
theorem dX0_compare_19 : decode cX0_compare 19 = .ok (.invokevirtual 47, 3) := dk_182 0 47 (dk_at dksX0_compare_0 19 rfl rfl)
theorem dX0_compare_22 : decode cX0_compare 22 = .ok (.ireturn, 1) := dk_172 (dk_at dksX0_compare_0 22 rfl rfl)
theorem dX0_compare_23 : decode cX0_compare 23 = .ok (.aload_n 0, 1) := dk_42 (dk_at dksX0_compare_0 23 rfl rfl)
theorem dX0_compare_24 : decode cX0_compare 24 = .ok (.getfield 18, 3) := dk_180 0 18 (dk_at dksX0_compare_1 0 rfl rfl)
theorem dX0_compare_27 : decode cX0_compare 27 = .ok (.iload_n 1, 1) := dk_27 (dk_at dksX0_compare_1 3 rfl rfl)
theorem dX0_compare_28 : decode cX0_compare 28 = .ok (.aaload, 1) := dk_50 (dk_at dksX0_compare_1 4 rfl rfl)
theorem dX0_compare_29 : decode cX0_compare 29 = .ok (.getfield 101, 3) := dk_180 0 101 (dk_at dksX0_compare_1 5 rfl rfl)
theorem dX0_compare_32 : decode cX0_compare 32 = .ok (.astore_n 3, 1) := dk_78 (dk_at dksX0_compare_1 8 rfl rfl)
theorem dX0_compare_33 : decode cX0_compare 33 = .ok (.aload_n 0, 1) := dk_42 (dk_at dksX0_compare_1 9 rfl rfl)
theorem dX0_compare_34 : decode cX0_compare 34 = .ok (.getfield 18, 3) := dk_180 0 18 (dk_at dksX0_compare_1 10 rfl rfl)
theorem dX0_compare_37 : decode cX0_compare 37 = .ok (.iload_n 2, 1) := dk_28 (dk_at dksX0_compare_1 13 rfl rfl)
theorem dX0_compare_38 : decode cX0_compare 38 = .ok (.aaload, 1) := dk_50 (dk_at dksX0_compare_1 14 rfl rfl)
theorem dX0_compare_39 : decode cX0_compare 39 = .ok (.getfield 101, 3) := dk_180 0 101 (dk_at dksX0_compare_1 15 rfl rfl)
theorem dX0_compare_42 : decode cX0_compare 42 = .ok (.astore 4, 2) := dk_58 4 (dk_at dksX0_compare_1 18 rfl rfl)
theorem dX0_compare_44 : decode cX0_compare 44 = .ok (.aload_n 3, 1) := dk_45 (dk_at dksX0_compare_1 20 rfl rfl)
theorem dX0_compare_45 : decode cX0_compare 45 = .ok (.invokestatic 62, 3) := dk_184 0 62 (dk_at dksX0_compare_1 21 rfl rfl)
theorem dX0_compare_48 : decode cX0_compare 48 = .ok (.iconst 3, 1) := dk_6 (dk_at dksX0_compare_2 0 rfl rfl)
theorem dX0_compare_49 : decode cX0_compare 49 = .ok (.if_icmp .ge 15, 3) := dk_162 0 15 (dk_at dksX0_compare_2 1 rfl rfl)
theorem dX0_compare_52 : decode cX0_compare 52 = .ok (.aload_n 3, 1) := dk_45 (dk_at dksX0_compare_2 4 rfl rfl)
theorem dX0_compare_53 : decode cX0_compare 53 = .ok (.invokestatic 62, 3) := dk_184 0 62 (dk_at dksX0_compare_2 5 rfl rfl)
theorem dX0_compare_56 : decode cX0_compare 56 = .ok (.aload 4, 2) := dk_25 4 (dk_at dksX0_compare_2 8 rfl rfl)
theorem dX0_compare_58 : decode cX0_compare 58 = .ok (.invokestatic 62, 3) := dk_184 0 62 (dk_at dksX0_compare_2 10 rfl rfl)
theorem dX0_compare_61 : decode cX0_compare 61 = .ok (.if_icmp .eq 9, 3) := dk_159 0 9 (dk_at dksX0_compare_2 13 rfl rfl)
theorem dX0_compare_64 : decode cX0_compare 64 = .ok (.aload_n 0, 1) := dk_42 (dk_at dksX0_compare_2 16 rfl rfl)
theorem dX0_compare_65 : decode cX0_compare 65 = .ok (.iconst 2, 1) := dk_5 (dk_at dksX0_compare_2 17 rfl rfl)
theorem dX0_compare_66 : decode cX0_compare 66 = .ok (.invokevirtual 47, 3) := dk_182 0 47 (dk_at dksX0_compare_2 18 rfl rfl)
theorem dX0_compare_69 : decode cX0_compare 69 = .ok (.ireturn, 1) := dk_172 (dk_at dksX0_compare_2 21 rfl rfl)
theorem dX0_compare_70 : decode cX0_compare 70 = .ok (.aload_n 3, 1) := dk_45 (dk_at dksX0_compare_2 22 rfl rfl)
theorem dX0_compare_71 : decode cX0_compare 71 = .ok (.invokestatic 147, 3) := dk_184 0 147 (dk_at dksX0_compare_3 0 rfl rfl)
theorem dX0_compare_74 : decode cX0_compare 74 = .ok (.aload 4, 2) := dk_25 4 (dk_at dksX0_compare_3 3 rfl rfl)
theorem dX0_compare_76 : decode cX0_compare 76 = .ok (.invokestatic 147, 3) := dk_184 0 147 (dk_at dksX0_compare_3 5 rfl rfl)
theorem dX0_compare_79 : decode cX0_compare 79 = .ok (.invokestatic 212, 3) := dk_184 0 212 (dk_at dksX0_compare_3 8 rfl rfl)
theorem dX0_compare_82 : decode cX0_compare 82 = .ok (.istore 5, 2) := dk_54 5 (dk_at dksX0_compare_3 11 rfl rfl)
theorem dX0_compare_84 : decode cX0_compare 84 = .ok (.iconst 0, 1) := dk_3 (dk_at dksX0_compare_3 13 rfl rfl)
theorem dX0_compare_85 : decode cX0_compare 85 = .ok (.istore 6, 2) := dk_54 6 (dk_at dksX0_compare_3 14 rfl rfl)
theorem dX0_compare_87 : decode cX0_compare 87 = .ok (.iload 6, 2) := dk_21 6 (dk_at dksX0_compare_3 16 rfl rfl)
theorem dX0_compare_89 : decode cX0_compare 89 = .ok (.iload 5, 2) := dk_21 5 (dk_at dksX0_compare_3 18 rfl rfl)
theorem dX0_compare_91 : decode cX0_compare 91 = .ok (.if_icmp .ge 26, 3) := dk_162 0 26 (dk_at dksX0_compare_3 20 rfl rfl)
theorem dX0_compare_94 : decode cX0_compare 94 = .ok (.aload_n 3, 1) := dk_45 (dk_at dksX0_compare_3 23 rfl rfl)
theorem dX0_compare_95 : decode cX0_compare 95 = .ok (.iload 6, 2) := dk_21 6 (dk_at dksX0_compare_4 0 rfl rfl)
theorem dX0_compare_97 : decode cX0_compare 97 = .ok (.invokestatic 84, 3) := dk_184 0 84 (dk_at dksX0_compare_4 2 rfl rfl)
theorem dX0_compare_100 : decode cX0_compare 100 = .ok (.aload 4, 2) := dk_25 4 (dk_at dksX0_compare_4 5 rfl rfl)
theorem dX0_compare_102 : decode cX0_compare 102 = .ok (.iload 6, 2) := dk_21 6 (dk_at dksX0_compare_4 7 rfl rfl)
theorem dX0_compare_104 : decode cX0_compare 104 = .ok (.invokestatic 84, 3) := dk_184 0 84 (dk_at dksX0_compare_4 9 rfl rfl)
theorem dX0_compare_107 : decode cX0_compare 107 = .ok (.lcmp, 1) := dk_148 (dk_at dksX0_compare_4 12 rfl rfl)
theorem dX0_compare_108 : decode cX0_compare 108 = .ok (.ifCond .ne 9, 3) := dk_154 0 9 (dk_at dksX0_compare_4 13 rfl rfl)
theorem dX0_compare_111 : decode cX0_compare 111 = .ok (.iinc 6 1, 3) := dk_132 6 1 (dk_at dksX0_compare_4 16 rfl rfl)
theorem dX0_compare_114 : decode cX0_compare 114 = .ok (.goto (-27), 3) := dk_167 255 229 (dk_at dksX0_compare_4 19 rfl rfl)
theorem dX0_compare_117 : decode cX0_compare 117 = .ok (.aload_n 0, 1) := dk_42 (dk_at dksX0_compare_4 22 rfl rfl)
theorem dX0_compare_118 : decode cX0_compare 118 = .ok (.iload 6, 2) := dk_21 6 (dk_at dksX0_compare_5 0 rfl rfl)
theorem dX0_compare_120 : decode cX0_compare 120 = .ok (.iload 5, 2) := dk_21 5 (dk_at dksX0_compare_5 2 rfl rfl)
theorem dX0_compare_122 : decode cX0_compare 122 = .ok (.if_icmp .ge 28, 3) := dk_162 0 28 (dk_at dksX0_compare_5 4 rfl rfl)
theorem dX0_compare_125 : decode cX0_compare 125 = .ok (.aload_n 3, 1) := dk_45 (dk_at dksX0_compare_5 7 rfl rfl)
theorem dX0_compare_126 : decode cX0_compare 126 = .ok (.iload 6, 2) := dk_21 6 (dk_at dksX0_compare_5 8 rfl rfl)
theorem dX0_compare_128 : decode cX0_compare 128 = .ok (.invokestatic 84, 3) := dk_184 0 84 (dk_at dksX0_compare_5 10 rfl rfl)
theorem dX0_compare_131 : decode cX0_compare 131 = .ok (.aload 4, 2) := dk_25 4 (dk_at dksX0_compare_5 13 rfl rfl)
theorem dX0_compare_133 : decode cX0_compare 133 = .ok (.iload 6, 2) := dk_21 6 (dk_at dksX0_compare_5 15 rfl rfl)
theorem dX0_compare_135 : decode cX0_compare 135 = .ok (.invokestatic 84, 3) := dk_184 0 84 (dk_at dksX0_compare_5 17 rfl rfl)
theorem dX0_compare_138 : decode cX0_compare 138 = .ok (.lcmp, 1) := dk_148 (dk_at dksX0_compare_5 20 rfl rfl)
theorem dX0_compare_139 : decode cX0_compare 139 = .ok (.ifCond .ge 7, 3) := dk_156 0 7 (dk_at dksX0_compare_5 21 rfl rfl)
theorem dX0_compare_142 : decode cX0_compare 142 = .ok (.iconst (-1), 1) := dk_2 (dk_at dksX0_compare_6 0 rfl rfl)
theorem dX0_compare_143 : decode cX0_compare 143 = .ok (.goto 19, 3) := dk_167 0 19 (dk_at dksX0_compare_6 1 rfl rfl)
theorem dX0_compare_146 : decode cX0_compare 146 = .ok (.iconst 1, 1) := dk_4 (dk_at dksX0_compare_6 4 rfl rfl)
theorem dX0_compare_147 : decode cX0_compare 147 = .ok (.goto 15, 3) := dk_167 0 15 (dk_at dksX0_compare_6 5 rfl rfl)
theorem dX0_compare_150 : decode cX0_compare 150 = .ok (.aload_n 3, 1) := dk_45 (dk_at dksX0_compare_6 8 rfl rfl)
theorem dX0_compare_151 : decode cX0_compare 151 = .ok (.invokestatic 147, 3) := dk_184 0 147 (dk_at dksX0_compare_6 9 rfl rfl)
theorem dX0_compare_154 : decode cX0_compare 154 = .ok (.aload 4, 2) := dk_25 4 (dk_at dksX0_compare_6 12 rfl rfl)
theorem dX0_compare_156 : decode cX0_compare 156 = .ok (.invokestatic 147, 3) := dk_184 0 147 (dk_at dksX0_compare_6 14 rfl rfl)
theorem dX0_compare_159 : decode cX0_compare 159 = .ok (.invokestatic 215, 3) := dk_184 0 215 (dk_at dksX0_compare_6 17 rfl rfl)
theorem dX0_compare_162 : decode cX0_compare 162 = .ok (.invokevirtual 114, 3) := dk_182 0 114 (dk_at dksX0_compare_6 20 rfl rfl)
theorem dX0_compare_165 : decode cX0_compare 165 = .ok (.ireturn, 1) := dk_172 (dk_at dksX0_compare_6 23 rfl rfl)
abbrev cX0_clear : ByteArray := prog_1_method_46_code
def yX0_clear : MethodName := ⟨RX0, "clear", "()I"⟩
def dkwX0_clear_2 : List UInt8 := [181, 0, 192, 42, 3, 181, 0, 44, 42, 2, 181, 0, 22, 27, 172]
abbrev dktX0_clear_2 : List UInt8 := dkwX0_clear_2 ++ []
def dkwX0_clear_1 : List UInt8 := [181, 0, 101, 132, 2, 1, 167, 255, 235, 42, 3, 181, 0, 51, 42, 180, 0, 10, 3, 181, 0, 108, 42, 3]
abbrev dktX0_clear_1 : List UInt8 := dkwX0_clear_1 ++ dktX0_clear_2
def dkwX0_clear_0 : List UInt8 := [42, 180, 0, 51, 60, 3, 61, 28, 42, 180, 0, 51, 162, 0, 19, 42, 180, 0, 18, 28, 50, 1]
abbrev dktX0_clear_0 : List UInt8 := dkwX0_clear_0 ++ dktX0_clear_1
theorem dksX0_clear_0 : cX0_clear.data.toList.drop 0 = dktX0_clear_0 := by decide +kernel
theorem dksX0_clear_1 : cX0_clear.data.toList.drop 22 = dktX0_clear_1 := dk_seg dksX0_clear_0 22 rfl rfl
theorem dksX0_clear_2 : cX0_clear.data.toList.drop 46 = dktX0_clear_2 := dk_seg dksX0_clear_1 24 rfl rfl
theorem dX0_clear_0 : decode cX0_clear 0 = .ok (.aload_n 0, 1) := dk_42 (dk_at dksX0_clear_0 0 rfl rfl)
theorem dX0_clear_1 : decode cX0_clear 1 = .ok (.getfield 51, 3) := dk_180 0 51 (dk_at dksX0_clear_0 1 rfl rfl)
theorem dX0_clear_4 : decode cX0_clear 4 = .ok (.istore_n 1, 1) := dk_60 (dk_at dksX0_clear_0 4 rfl rfl)
theorem dX0_clear_5 : decode cX0_clear 5 = .ok (.iconst 0, 1) := dk_3 (dk_at dksX0_clear_0 5 rfl rfl)
theorem dX0_clear_6 : decode cX0_clear 6 = .ok (.istore_n 2, 1) := dk_61 (dk_at dksX0_clear_0 6 rfl rfl)
theorem dX0_clear_7 : decode cX0_clear 7 = .ok (.iload_n 2, 1) := dk_28 (dk_at dksX0_clear_0 7 rfl rfl)
theorem dX0_clear_8 : decode cX0_clear 8 = .ok (.aload_n 0, 1) := dk_42 (dk_at dksX0_clear_0 8 rfl rfl)
theorem dX0_clear_9 : decode cX0_clear 9 = .ok (.getfield 51, 3) := dk_180 0 51 (dk_at dksX0_clear_0 9 rfl rfl)
theorem dX0_clear_12 : decode cX0_clear 12 = .ok (.if_icmp .ge 19, 3) := dk_162 0 19 (dk_at dksX0_clear_0 12 rfl rfl)
theorem dX0_clear_15 : decode cX0_clear 15 = .ok (.aload_n 0, 1) := dk_42 (dk_at dksX0_clear_0 15 rfl rfl)
theorem dX0_clear_16 : decode cX0_clear 16 = .ok (.getfield 18, 3) := dk_180 0 18 (dk_at dksX0_clear_0 16 rfl rfl)
theorem dX0_clear_19 : decode cX0_clear 19 = .ok (.iload_n 2, 1) := dk_28 (dk_at dksX0_clear_0 19 rfl rfl)
theorem dX0_clear_20 : decode cX0_clear 20 = .ok (.aaload, 1) := dk_50 (dk_at dksX0_clear_0 20 rfl rfl)
theorem dX0_clear_21 : decode cX0_clear 21 = .ok (.aconst_null, 1) := dk_1 (dk_at dksX0_clear_0 21 rfl rfl)
theorem dX0_clear_22 : decode cX0_clear 22 = .ok (.putfield 101, 3) := dk_181 0 101 (dk_at dksX0_clear_1 0 rfl rfl)
theorem dX0_clear_25 : decode cX0_clear 25 = .ok (.iinc 2 1, 3) := dk_132 2 1 (dk_at dksX0_clear_1 3 rfl rfl)
theorem dX0_clear_28 : decode cX0_clear 28 = .ok (.goto (-21), 3) := dk_167 255 235 (dk_at dksX0_clear_1 6 rfl rfl)
theorem dX0_clear_31 : decode cX0_clear 31 = .ok (.aload_n 0, 1) := dk_42 (dk_at dksX0_clear_1 9 rfl rfl)
theorem dX0_clear_32 : decode cX0_clear 32 = .ok (.iconst 0, 1) := dk_3 (dk_at dksX0_clear_1 10 rfl rfl)
theorem dX0_clear_33 : decode cX0_clear 33 = .ok (.putfield 51, 3) := dk_181 0 51 (dk_at dksX0_clear_1 11 rfl rfl)
theorem dX0_clear_36 : decode cX0_clear 36 = .ok (.aload_n 0, 1) := dk_42 (dk_at dksX0_clear_1 14 rfl rfl)
theorem dX0_clear_37 : decode cX0_clear 37 = .ok (.getfield 10, 3) := dk_180 0 10 (dk_at dksX0_clear_1 15 rfl rfl)
theorem dX0_clear_40 : decode cX0_clear 40 = .ok (.iconst 0, 1) := dk_3 (dk_at dksX0_clear_1 18 rfl rfl)
theorem dX0_clear_41 : decode cX0_clear 41 = .ok (.putfield 108, 3) := dk_181 0 108 (dk_at dksX0_clear_1 19 rfl rfl)
theorem dX0_clear_44 : decode cX0_clear 44 = .ok (.aload_n 0, 1) := dk_42 (dk_at dksX0_clear_1 22 rfl rfl)
theorem dX0_clear_45 : decode cX0_clear 45 = .ok (.iconst 0, 1) := dk_3 (dk_at dksX0_clear_1 23 rfl rfl)
theorem dX0_clear_46 : decode cX0_clear 46 = .ok (.putfield 192, 3) := dk_181 0 192 (dk_at dksX0_clear_2 0 rfl rfl)
theorem dX0_clear_49 : decode cX0_clear 49 = .ok (.aload_n 0, 1) := dk_42 (dk_at dksX0_clear_2 3 rfl rfl)
theorem dX0_clear_50 : decode cX0_clear 50 = .ok (.iconst 0, 1) := dk_3 (dk_at dksX0_clear_2 4 rfl rfl)
theorem dX0_clear_51 : decode cX0_clear 51 = .ok (.putfield 44, 3) := dk_181 0 44 (dk_at dksX0_clear_2 5 rfl rfl)
theorem dX0_clear_54 : decode cX0_clear 54 = .ok (.aload_n 0, 1) := dk_42 (dk_at dksX0_clear_2 8 rfl rfl)
theorem dX0_clear_55 : decode cX0_clear 55 = .ok (.iconst (-1), 1) := dk_2 (dk_at dksX0_clear_2 9 rfl rfl)
theorem dX0_clear_56 : decode cX0_clear 56 = .ok (.putfield 22, 3) := dk_181 0 22 (dk_at dksX0_clear_2 10 rfl rfl)
theorem dX0_clear_59 : decode cX0_clear 59 = .ok (.iload_n 1, 1) := dk_27 (dk_at dksX0_clear_2 13 rfl rfl)
theorem dX0_clear_60 : decode cX0_clear 60 = .ok (.ireturn, 1) := dk_172 (dk_at dksX0_clear_2 14 rfl rfl)
theorem q28 : (Jvm.Cond.initialized "ArrayMaker") ∈ lw_all := lw_g (lw_at lw_m1 1 rfl) rfl
theorem q47 : (Jvm.Cond.instantiable "ArrayMaker" (11 : Nat)) ∈ lw_all := lw_g (lw_at lw_m1 20 rfl) rfl
theorem q49 : (Jvm.Cond.instanceMethod ({ cls := "ArrayMaker", name := "<init>", desc := "()V" } : Jvm.MethodName)) ∈ lw_all := lw_g (lw_at lw_m1 22 rfl) rfl
theorem q50 : (Jvm.Cond.code ({ cls := "ArrayMaker", name := "<init>", desc := "()V" } : Jvm.MethodName) prog_1_method_1_code (2 : Nat) (Option.none : Option Jvm.ClassFile.FieldType)) ∈ lw_all := lw_g (lw_at lw_m1 23 rfl) rfl
theorem q51 : (Jvm.Cond.methodLink "ArrayMaker" (1 : Nat) ({ cls := "java/lang/Object", name := "<init>", desc := "()V" } : Jvm.MethodName)) ∈ lw_all := lw_g (lw_at lw_m1 24 rfl) rfl
theorem q54 : (Jvm.Cond.classLink "ArrayMaker" (7 : Nat) "ArrayMaker$Shape") ∈ lw_all := lw_g (lw_at lw_m1 27 rfl) rfl
theorem q56 : (Jvm.Cond.methodLinkNest "ArrayMaker" (9 : Nat) ({ cls := "ArrayMaker$Shape", name := "<init>", desc := "()V" } : Jvm.MethodName) "ArrayMaker") ∈ lw_tbl := lw_at lw_m1 29 rfl
theorem q61 : (Jvm.Cond.fieldLinkNest "ArrayMaker" (108 : Nat) "ArrayMaker$Shape" "many" "I" "ArrayMaker") ∈ lw_tbl := lw_at lw_m1 34 rfl
theorem q63 : (Jvm.Cond.fieldLinkNest "ArrayMaker" (105 : Nat) "ArrayMaker$Shape" "low" "[I" "ArrayMaker") ∈ lw_tbl := lw_at lw_m1 36 rfl
theorem q65 : (Jvm.Cond.fieldLinkNest "ArrayMaker" (111 : Nat) "ArrayMaker$Shape" "high" "[I" "ArrayMaker") ∈ lw_tbl := lw_at lw_m1 38 rfl
theorem q74 : (Jvm.Cond.classLink "ArrayMaker" (16 : Nat) "ArrayMaker$Seen") ∈ lw_all := lw_g (lw_at lw_m1 47 rfl) rfl
theorem q77 : (Jvm.Cond.methodLinkNest "ArrayMaker" (43 : Nat) ({ cls := "ArrayMaker$Seen", name := "<init>", desc := "()V" } : Jvm.MethodName) "ArrayMaker") ∈ lw_tbl := lw_at lw_m1 50 rfl
theorem q84 : (Jvm.Cond.fieldLinkNest "ArrayMaker" (96 : Nat) "ArrayMaker$Seen" "shape" "LArrayMaker$Shape;" "ArrayMaker") ∈ lw_tbl := lw_at lw_m1 57 rfl
theorem q85 : (Jvm.Cond.fieldLinkNest "ArrayMaker" (101 : Nat) "ArrayMaker$Seen" "row" "Ljava/lang/Object;" "ArrayMaker") ∈ lw_tbl := lw_at lw_m1 58 rfl
theorem q92 : (Jvm.Cond.fieldLink "ArrayMaker" (10 : Nat) "ArrayMaker" "shape" "LArrayMaker$Shape;") ∈ lw_all := lw_g (lw_at lw_m1 65 rfl) rfl
theorem q93 : (Jvm.Cond.fieldLink "ArrayMaker" (18 : Nat) "ArrayMaker" "arrays" "[LArrayMaker$Seen;") ∈ lw_all := lw_g (lw_at lw_m1 66 rfl) rfl
theorem q94 : (Jvm.Cond.fieldLink "ArrayMaker" (51 : Nat) "ArrayMaker" "made" "I") ∈ lw_all := lw_g (lw_at lw_m1 67 rfl) rfl
theorem q95 : (Jvm.Cond.fieldLink "ArrayMaker" (44 : Nat) "ArrayMaker" "code" "I") ∈ lw_all := lw_g (lw_at lw_m1 68 rfl) rfl
theorem q96 : (Jvm.Cond.fieldLink "ArrayMaker" (22 : Nat) "ArrayMaker" "which" "I") ∈ lw_all := lw_g (lw_at lw_m1 69 rfl) rfl
theorem q97 : (Jvm.Cond.fieldLink "ArrayMaker" (26 : Nat) "ArrayMaker" "lines" "[I") ∈ lw_all := lw_g (lw_at lw_m1 70 rfl) rfl
theorem q98 : (Jvm.Cond.fieldLink "ArrayMaker" (30 : Nat) "ArrayMaker" "numbers" "[J") ∈ lw_all := lw_g (lw_at lw_m1 71 rfl) rfl
theorem q99 : (Jvm.Cond.fieldLink "ArrayMaker" (192 : Nat) "ArrayMaker" "listed" "I") ∈ lw_all := lw_g (lw_at lw_m1 72 rfl) rfl
theorem q100 : (Jvm.Cond.fieldLink "ArrayMaker" (34 : Nat) "ArrayMaker" "index" "[I") ∈ lw_all := lw_g (lw_at lw_m1 73 rfl) rfl
theorem q101 : (Jvm.Cond.fieldLink "ArrayMaker" (37 : Nat) "ArrayMaker" "other" "[I") ∈ lw_all := lw_g (lw_at lw_m1 74 rfl) rfl
theorem q102 : (Jvm.Cond.fieldLink "ArrayMaker" (40 : Nat) "ArrayMaker" "turned" "LArrayMaker$Shape;") ∈ lw_all := lw_g (lw_at lw_m1 75 rfl) rfl
theorem q103 : (Jvm.Cond.laysFinal "ArrayMaker" "ArrayMaker" "shape" "LArrayMaker$Shape;") ∈ lw_all := lw_g (lw_at lw_m1 76 rfl) rfl
theorem q104 : (Jvm.Cond.soleField "ArrayMaker" "shape") ∈ lw_all := lw_g (lw_at lw_m1 77 rfl) rfl
theorem q105 : (Jvm.Cond.laysFinal "ArrayMaker" "ArrayMaker" "arrays" "[LArrayMaker$Seen;") ∈ lw_all := lw_g (lw_at lw_m1 78 rfl) rfl
theorem q106 : (Jvm.Cond.soleField "ArrayMaker" "arrays") ∈ lw_all := lw_g (lw_at lw_m1 79 rfl) rfl
theorem q107 : (Jvm.Cond.lays "ArrayMaker" "ArrayMaker" "made" "I") ∈ lw_all := lw_g (lw_at lw_m1 80 rfl) rfl
theorem q108 : (Jvm.Cond.soleField "ArrayMaker" "made") ∈ lw_all := lw_g (lw_at lw_m1 81 rfl) rfl
theorem q109 : (Jvm.Cond.lays "ArrayMaker" "ArrayMaker" "code" "I") ∈ lw_all := lw_g (lw_at lw_m1 82 rfl) rfl
theorem q110 : (Jvm.Cond.soleField "ArrayMaker" "code") ∈ lw_all := lw_g (lw_at lw_m1 83 rfl) rfl
theorem q111 : (Jvm.Cond.lays "ArrayMaker" "ArrayMaker" "which" "I") ∈ lw_all := lw_g (lw_at lw_m1 84 rfl) rfl
theorem q112 : (Jvm.Cond.soleField "ArrayMaker" "which") ∈ lw_all := lw_g (lw_at lw_m1 85 rfl) rfl
theorem q113 : (Jvm.Cond.laysFinal "ArrayMaker" "ArrayMaker" "lines" "[I") ∈ lw_all := lw_g (lw_at lw_m1 86 rfl) rfl
theorem q114 : (Jvm.Cond.soleField "ArrayMaker" "lines") ∈ lw_all := lw_g (lw_at lw_m1 87 rfl) rfl
theorem q115 : (Jvm.Cond.laysFinal "ArrayMaker" "ArrayMaker" "numbers" "[J") ∈ lw_all := lw_g (lw_at lw_m1 88 rfl) rfl
theorem q116 : (Jvm.Cond.soleField "ArrayMaker" "numbers") ∈ lw_all := lw_g (lw_at lw_m1 89 rfl) rfl
theorem q117 : (Jvm.Cond.lays "ArrayMaker" "ArrayMaker" "listed" "I") ∈ lw_all := lw_g (lw_at lw_m1 90 rfl) rfl
theorem q118 : (Jvm.Cond.soleField "ArrayMaker" "listed") ∈ lw_all := lw_g (lw_at lw_m1 91 rfl) rfl
theorem q119 : (Jvm.Cond.laysFinal "ArrayMaker" "ArrayMaker" "index" "[I") ∈ lw_all := lw_g (lw_at lw_m1 92 rfl) rfl
theorem q120 : (Jvm.Cond.soleField "ArrayMaker" "index") ∈ lw_all := lw_g (lw_at lw_m1 93 rfl) rfl
theorem q121 : (Jvm.Cond.laysFinal "ArrayMaker" "ArrayMaker" "other" "[I") ∈ lw_all := lw_g (lw_at lw_m1 94 rfl) rfl
theorem q122 : (Jvm.Cond.soleField "ArrayMaker" "other") ∈ lw_all := lw_g (lw_at lw_m1 95 rfl) rfl
theorem q123 : (Jvm.Cond.laysFinal "ArrayMaker" "ArrayMaker" "turned" "LArrayMaker$Shape;") ∈ lw_all := lw_g (lw_at lw_m1 96 rfl) rfl
theorem q124 : (Jvm.Cond.soleField "ArrayMaker" "turned") ∈ lw_all := lw_g (lw_at lw_m1 97 rfl) rfl
theorem q125 : (Jvm.Cond.superclass "ArrayMaker" "java/lang/Object") ∈ lw_all := lw_g (lw_at lw_m1 98 rfl) rfl
theorem q127 : (Jvm.Cond.instanceMethod ({ cls := "ArrayMaker", name := "code", desc := "()I" } : Jvm.MethodName)) ∈ lw_all := lw_g (lw_at lw_m1 100 rfl) rfl
theorem q128 : (Jvm.Cond.selects "ArrayMaker" ({ cls := "ArrayMaker", name := "code", desc := "()I" } : Jvm.MethodName) ({ cls := "ArrayMaker", name := "code", desc := "()I" } : Jvm.MethodName)) ∈ lw_all := lw_g (lw_at lw_m1 101 rfl) rfl
theorem q129 : (Jvm.Cond.code ({ cls := "ArrayMaker", name := "code", desc := "()I" } : Jvm.MethodName) prog_1_method_14_code (1 : Nat) (Option.some Jvm.ClassFile.FieldType.int)) ∈ lw_all := lw_g (lw_at lw_m1 102 rfl) rfl
theorem q131 : (Jvm.Cond.instanceMethod ({ cls := "ArrayMaker", name := "which", desc := "()I" } : Jvm.MethodName)) ∈ lw_all := lw_g (lw_at lw_m1 104 rfl) rfl
theorem q132 : (Jvm.Cond.selects "ArrayMaker" ({ cls := "ArrayMaker", name := "which", desc := "()I" } : Jvm.MethodName) ({ cls := "ArrayMaker", name := "which", desc := "()I" } : Jvm.MethodName)) ∈ lw_all := lw_g (lw_at lw_m1 105 rfl) rfl
theorem q133 : (Jvm.Cond.code ({ cls := "ArrayMaker", name := "which", desc := "()I" } : Jvm.MethodName) prog_1_method_15_code (1 : Nat) (Option.some Jvm.ClassFile.FieldType.int)) ∈ lw_all := lw_g (lw_at lw_m1 106 rfl) rfl
theorem q135 : (Jvm.Cond.instanceMethod ({ cls := "ArrayMaker", name := "range", desc := "(II)I" } : Jvm.MethodName)) ∈ lw_all := lw_g (lw_at lw_m1 108 rfl) rfl
theorem q136 : (Jvm.Cond.selects "ArrayMaker" ({ cls := "ArrayMaker", name := "range", desc := "(II)I" } : Jvm.MethodName) ({ cls := "ArrayMaker", name := "range", desc := "(II)I" } : Jvm.MethodName)) ∈ lw_all := lw_g (lw_at lw_m1 109 rfl) rfl
theorem q137 : (Jvm.Cond.codeWith ({ cls := "ArrayMaker", name := "range", desc := "(II)I" } : Jvm.MethodName) prog_1_method_16_code (4 : Nat) (Option.some Jvm.ClassFile.FieldType.int) [((0 : Nat), (50 : Nat), (51 : Nat), (117 : Nat))]) ∈ lw_all := lw_g (lw_at lw_m1 110 rfl) rfl
theorem q138 : (Jvm.Cond.classLink "ArrayMaker" (117 : Nat) "java/lang/ArrayIndexOutOfBoundsException") ∈ lw_all := lw_g (lw_at lw_m1 111 rfl) rfl
theorem q229 : (Jvm.Cond.methodLink "ArrayMaker" (114 : Nat) ({ cls := "ArrayMaker", name := "done", desc := "(I)I" } : Jvm.MethodName)) ∈ lw_all := lw_g (lw_at lw_m1 202 rfl) rfl
theorem q230 : (Jvm.Cond.privateMethod ({ cls := "ArrayMaker", name := "done", desc := "(I)I" } : Jvm.MethodName)) ∈ lw_tbl := lw_at lw_m1 203 rfl
theorem q231 : (Jvm.Cond.instanceMethod ({ cls := "ArrayMaker", name := "done", desc := "(I)I" } : Jvm.MethodName)) ∈ lw_all := lw_g (lw_at lw_m1 204 rfl) rfl
theorem q232 : (Jvm.Cond.code ({ cls := "ArrayMaker", name := "done", desc := "(I)I" } : Jvm.MethodName) prog_1_method_4_code (2 : Nat) (Option.some Jvm.ClassFile.FieldType.int)) ∈ lw_all := lw_g (lw_at lw_m1 205 rfl) rfl
theorem q233 : (Jvm.Cond.methodLink "ArrayMaker" (47 : Nat) ({ cls := "ArrayMaker", name := "fail", desc := "(I)I" } : Jvm.MethodName)) ∈ lw_all := lw_g (lw_at lw_m1 206 rfl) rfl
theorem q234 : (Jvm.Cond.privateMethod ({ cls := "ArrayMaker", name := "fail", desc := "(I)I" } : Jvm.MethodName)) ∈ lw_tbl := lw_at lw_m1 207 rfl
theorem q235 : (Jvm.Cond.instanceMethod ({ cls := "ArrayMaker", name := "fail", desc := "(I)I" } : Jvm.MethodName)) ∈ lw_all := lw_g (lw_at lw_m1 208 rfl) rfl
theorem q236 : (Jvm.Cond.code ({ cls := "ArrayMaker", name := "fail", desc := "(I)I" } : Jvm.MethodName) prog_1_method_2_code (2 : Nat) (Option.some Jvm.ClassFile.FieldType.int)) ∈ lw_all := lw_g (lw_at lw_m1 209 rfl) rfl
theorem q238 : (Jvm.Cond.instanceMethod ({ cls := "ArrayMaker", name := "shapeless", desc := "()I" } : Jvm.MethodName)) ∈ lw_all := lw_g (lw_at lw_m1 211 rfl) rfl
theorem q239 : (Jvm.Cond.selects "ArrayMaker" ({ cls := "ArrayMaker", name := "shapeless", desc := "()I" } : Jvm.MethodName) ({ cls := "ArrayMaker", name := "shapeless", desc := "()I" } : Jvm.MethodName)) ∈ lw_all := lw_g (lw_at lw_m1 212 rfl) rfl
theorem q240 : (Jvm.Cond.code ({ cls := "ArrayMaker", name := "shapeless", desc := "()I" } : Jvm.MethodName) prog_1_method_17_code (2 : Nat) (Option.some Jvm.ClassFile.FieldType.int)) ∈ lw_all := lw_g (lw_at lw_m1 213 rfl) rfl
theorem q242 : (Jvm.Cond.instanceMethod ({ cls := "ArrayMaker", name := "make", desc := "(I)I" } : Jvm.MethodName)) ∈ lw_all := lw_g (lw_at lw_m1 215 rfl) rfl
theorem q243 : (Jvm.Cond.selects "ArrayMaker" ({ cls := "ArrayMaker", name := "make", desc := "(I)I" } : Jvm.MethodName) ({ cls := "ArrayMaker", name := "make", desc := "(I)I" } : Jvm.MethodName)) ∈ lw_all := lw_g (lw_at lw_m1 216 rfl) rfl
theorem q244 : (Jvm.Cond.code ({ cls := "ArrayMaker", name := "make", desc := "(I)I" } : Jvm.MethodName) prog_1_method_19_code (5 : Nat) (Option.some Jvm.ClassFile.FieldType.int)) ∈ lw_all := lw_g (lw_at lw_m1 217 rfl) rfl
theorem q245 : (Jvm.Cond.constant "ArrayMaker" (119 : Nat) (-2000000001 : Int32)) ∈ lw_all := lw_g (lw_at lw_m1 218 rfl) rfl
theorem q246 : (Jvm.Cond.methodLink "ArrayMaker" (120 : Nat) ({ cls := "ArrayMaker$Shape", name := "items", desc := "()I" } : Jvm.MethodName)) ∈ lw_all := lw_g (lw_at lw_m1 219 rfl) rfl
theorem q261 : (Jvm.Cond.methodLink "ArrayMaker" (124 : Nat) ({ cls := "ArrayMaker$Shape", name := "length", desc := "(I)J" } : Jvm.MethodName)) ∈ lw_all := lw_g (lw_at lw_m1 234 rfl) rfl
theorem q262 : (Jvm.Cond.constantLong "ArrayMaker" (128 : Nat) (500 : Int64)) ∈ lw_all := lw_g (lw_at lw_m1 235 rfl) rfl
theorem q263 : (Jvm.Cond.methodLink "ArrayMaker" (130 : Nat) ({ cls := "ArrayMaker", name := "freshTable", desc := "(II)Ljava/lang/Object;" } : Jvm.MethodName)) ∈ lw_all := lw_g (lw_at lw_m1 236 rfl) rfl
theorem q264 : (Jvm.Cond.static ({ cls := "ArrayMaker", name := "freshTable", desc := "(II)Ljava/lang/Object;" } : Jvm.MethodName)) ∈ lw_all := lw_g (lw_at lw_m1 237 rfl) rfl
theorem q265 : (Jvm.Cond.code ({ cls := "ArrayMaker", name := "freshTable", desc := "(II)Ljava/lang/Object;" } : Jvm.MethodName) prog_1_method_18_code (4 : Nat) (Option.some (Jvm.ClassFile.FieldType.object "java/lang/Object"))) ∈ lw_all := lw_g (lw_at lw_m1 238 rfl) rfl
theorem q266 : (Jvm.Cond.classLink "ArrayMaker" (56 : Nat) "[I") ∈ lw_all := lw_g (lw_at lw_m1 239 rfl) rfl
theorem q268 : (Jvm.Cond.methodLink "ArrayMaker" (134 : Nat) ({ cls := "ArrayMaker", name := "fresh", desc := "(II)Ljava/lang/Object;" } : Jvm.MethodName)) ∈ lw_all := lw_g (lw_at lw_m2 1 rfl) rfl
theorem q269 : (Jvm.Cond.static ({ cls := "ArrayMaker", name := "fresh", desc := "(II)Ljava/lang/Object;" } : Jvm.MethodName)) ∈ lw_all := lw_g (lw_at lw_m2 2 rfl) rfl
theorem q270 : (Jvm.Cond.code ({ cls := "ArrayMaker", name := "fresh", desc := "(II)Ljava/lang/Object;" } : Jvm.MethodName) prog_1_method_7_code (2 : Nat) (Option.some (Jvm.ClassFile.FieldType.object "java/lang/Object"))) ∈ lw_all := lw_g (lw_at lw_m2 3 rfl) rfl
theorem q271 : (Jvm.Cond.classLink "ArrayMaker" (60 : Nat) "ArrayMaker$Box") ∈ lw_all := lw_g (lw_at lw_m2 4 rfl) rfl
theorem q273 : (Jvm.Cond.methodLink "ArrayMaker" (137 : Nat) ({ cls := "ArrayMaker", name := "keep", desc := "(LArrayMaker$Shape;Ljava/lang/Object;)I" } : Jvm.MethodName)) ∈ lw_all := lw_g (lw_at lw_m2 6 rfl) rfl
theorem q274 : (Jvm.Cond.privateMethod ({ cls := "ArrayMaker", name := "keep", desc := "(LArrayMaker$Shape;Ljava/lang/Object;)I" } : Jvm.MethodName)) ∈ lw_tbl := lw_at lw_m2 7 rfl
theorem q275 : (Jvm.Cond.instanceMethod ({ cls := "ArrayMaker", name := "keep", desc := "(LArrayMaker$Shape;Ljava/lang/Object;)I" } : Jvm.MethodName)) ∈ lw_all := lw_g (lw_at lw_m2 8 rfl) rfl
theorem q276 : (Jvm.Cond.code ({ cls := "ArrayMaker", name := "keep", desc := "(LArrayMaker$Shape;Ljava/lang/Object;)I" } : Jvm.MethodName) prog_1_method_13_code (3 : Nat) (Option.some Jvm.ClassFile.FieldType.int)) ∈ lw_all := lw_g (lw_at lw_m2 9 rfl) rfl
theorem q277 : (Jvm.Cond.methodLink "ArrayMaker" (97 : Nat) ({ cls := "ArrayMaker$Shape", name := "set", desc := "(LArrayMaker$Shape;)V" } : Jvm.MethodName)) ∈ lw_all := lw_g (lw_at lw_m2 10 rfl) rfl
theorem q285 : (Jvm.Cond.instanceMethod ({ cls := "ArrayMaker", name := "raw", desc := "(II)I" } : Jvm.MethodName)) ∈ lw_all := lw_g (lw_at lw_m2 18 rfl) rfl
theorem q286 : (Jvm.Cond.selects "ArrayMaker" ({ cls := "ArrayMaker", name := "raw", desc := "(II)I" } : Jvm.MethodName) ({ cls := "ArrayMaker", name := "raw", desc := "(II)I" } : Jvm.MethodName)) ∈ lw_all := lw_g (lw_at lw_m2 19 rfl) rfl
theorem q287 : (Jvm.Cond.codeWith ({ cls := "ArrayMaker", name := "raw", desc := "(II)I" } : Jvm.MethodName) prog_1_method_20_code (5 : Nat) (Option.some Jvm.ClassFile.FieldType.int) [((12 : Nat), (24 : Nat), (114 : Nat), (141 : Nat)), ((25 : Nat), (46 : Nat), (114 : Nat), (141 : Nat)), ((47 : Nat), (113 : Nat), (114 : Nat), (141 : Nat))]) ∈ lw_all := lw_g (lw_at lw_m2 20 rfl) rfl
theorem q288 : (Jvm.Cond.classLink "ArrayMaker" (141 : Nat) "java/lang/NegativeArraySizeException") ∈ lw_all := lw_g (lw_at lw_m2 21 rfl) rfl
theorem q303 : (Jvm.Cond.instanceMethod ({ cls := "ArrayMaker", name := "see", desc := "(I)I" } : Jvm.MethodName)) ∈ lw_all := lw_g (lw_at lw_m2 36 rfl) rfl
theorem q304 : (Jvm.Cond.selects "ArrayMaker" ({ cls := "ArrayMaker", name := "see", desc := "(I)I" } : Jvm.MethodName) ({ cls := "ArrayMaker", name := "see", desc := "(I)I" } : Jvm.MethodName)) ∈ lw_all := lw_g (lw_at lw_m2 37 rfl) rfl
theorem q305 : (Jvm.Cond.code ({ cls := "ArrayMaker", name := "see", desc := "(I)I" } : Jvm.MethodName) prog_1_method_21_code (4 : Nat) (Option.some Jvm.ClassFile.FieldType.int)) ∈ lw_all := lw_g (lw_at lw_m2 38 rfl) rfl
theorem q306 : (Jvm.Cond.methodLink "ArrayMaker" (143 : Nat) ({ cls := "ArrayMaker", name := "isArray", desc := "(I)Z" } : Jvm.MethodName)) ∈ lw_all := lw_g (lw_at lw_m2 39 rfl) rfl
theorem q307 : (Jvm.Cond.privateMethod ({ cls := "ArrayMaker", name := "isArray", desc := "(I)Z" } : Jvm.MethodName)) ∈ lw_tbl := lw_at lw_m2 40 rfl
theorem q308 : (Jvm.Cond.instanceMethod ({ cls := "ArrayMaker", name := "isArray", desc := "(I)Z" } : Jvm.MethodName)) ∈ lw_all := lw_g (lw_at lw_m2 41 rfl) rfl
theorem q309 : (Jvm.Cond.code ({ cls := "ArrayMaker", name := "isArray", desc := "(I)Z" } : Jvm.MethodName) prog_1_method_5_code (2 : Nat) (Option.some Jvm.ClassFile.FieldType.boolean)) ∈ lw_all := lw_g (lw_at lw_m2 42 rfl) rfl
theorem q310 : (Jvm.Cond.classLink "ArrayMaker" (58 : Nat) "[[I") ∈ lw_all := lw_g (lw_at lw_m2 43 rfl) rfl
theorem q311 : (Jvm.Cond.methodLink "ArrayMaker" (147 : Nat) ({ cls := "ArrayMaker", name := "sizeOf", desc := "(Ljava/lang/Object;)I" } : Jvm.MethodName)) ∈ lw_all := lw_g (lw_at lw_m2 44 rfl) rfl
theorem q312 : (Jvm.Cond.static ({ cls := "ArrayMaker", name := "sizeOf", desc := "(Ljava/lang/Object;)I" } : Jvm.MethodName)) ∈ lw_all := lw_g (lw_at lw_m2 45 rfl) rfl
theorem q313 : (Jvm.Cond.code ({ cls := "ArrayMaker", name := "sizeOf", desc := "(Ljava/lang/Object;)I" } : Jvm.MethodName) prog_1_method_8_code (1 : Nat) (Option.some Jvm.ClassFile.FieldType.int)) ∈ lw_all := lw_g (lw_at lw_m2 46 rfl) rfl
theorem q314 : (Jvm.Cond.methodLink "ArrayMaker" (62 : Nat) ({ cls := "ArrayMaker", name := "kindOf", desc := "(Ljava/lang/Object;)I" } : Jvm.MethodName)) ∈ lw_all := lw_g (lw_at lw_m2 47 rfl) rfl
theorem q315 : (Jvm.Cond.static ({ cls := "ArrayMaker", name := "kindOf", desc := "(Ljava/lang/Object;)I" } : Jvm.MethodName)) ∈ lw_all := lw_g (lw_at lw_m2 48 rfl) rfl
theorem q316 : (Jvm.Cond.code ({ cls := "ArrayMaker", name := "kindOf", desc := "(Ljava/lang/Object;)I" } : Jvm.MethodName) prog_1_method_6_code (1 : Nat) (Option.some Jvm.ClassFile.FieldType.int)) ∈ lw_all := lw_g (lw_at lw_m2 49 rfl) rfl
theorem q317 : (Jvm.Cond.classLink "ArrayMaker" (54 : Nat) "[B") ∈ lw_all := lw_g (lw_at lw_m2 50 rfl) rfl
theorem q318 : (Jvm.Cond.classLink "ArrayMaker" (57 : Nat) "[J") ∈ lw_all := lw_g (lw_at lw_m2 51 rfl) rfl
theorem q319 : (Jvm.Cond.classLink "ArrayMaker" (66 : Nat) "[LArrayMaker$Box;") ∈ lw_all := lw_g (lw_at lw_m2 52 rfl) rfl
theorem q321 : (Jvm.Cond.instanceMethod ({ cls := "ArrayMaker", name := "turn", desc := "(I)I" } : Jvm.MethodName)) ∈ lw_all := lw_g (lw_at lw_m2 54 rfl) rfl
theorem q322 : (Jvm.Cond.selects "ArrayMaker" ({ cls := "ArrayMaker", name := "turn", desc := "(I)I" } : Jvm.MethodName) ({ cls := "ArrayMaker", name := "turn", desc := "(I)I" } : Jvm.MethodName)) ∈ lw_all := lw_g (lw_at lw_m2 55 rfl) rfl
theorem q323 : (Jvm.Cond.code ({ cls := "ArrayMaker", name := "turn", desc := "(I)I" } : Jvm.MethodName) prog_1_method_23_code (7 : Nat) (Option.some Jvm.ClassFile.FieldType.int)) ∈ lw_all := lw_g (lw_at lw_m2 56 rfl) rfl
theorem q324 : (Jvm.Cond.methodLink "ArrayMaker" (156 : Nat) ({ cls := "ArrayMaker$Shape", name := "first", desc := "([I)V" } : Jvm.MethodName)) ∈ lw_all := lw_g (lw_at lw_m2 57 rfl) rfl
theorem q328 : (Jvm.Cond.methodLink "ArrayMaker" (160 : Nat) ({ cls := "ArrayMaker$Shape", name := "place", desc := "([I)I" } : Jvm.MethodName)) ∈ lw_all := lw_g (lw_at lw_m2 61 rfl) rfl
theorem q332 : (Jvm.Cond.methodLink "ArrayMaker" (164 : Nat) ({ cls := "ArrayMaker", name := "copy", desc := "(Ljava/lang/Object;ILjava/lang/Object;I)V" } : Jvm.MethodName)) ∈ lw_all := lw_g (lw_at lw_m2 65 rfl) rfl
theorem q333 : (Jvm.Cond.static ({ cls := "ArrayMaker", name := "copy", desc := "(Ljava/lang/Object;ILjava/lang/Object;I)V" } : Jvm.MethodName)) ∈ lw_all := lw_g (lw_at lw_m2 66 rfl) rfl
theorem q334 : (Jvm.Cond.code ({ cls := "ArrayMaker", name := "copy", desc := "(Ljava/lang/Object;ILjava/lang/Object;I)V" } : Jvm.MethodName) prog_1_method_22_code (4 : Nat) (Option.none : Option Jvm.ClassFile.FieldType)) ∈ lw_all := lw_g (lw_at lw_m2 67 rfl) rfl
theorem q335 : (Jvm.Cond.methodLink "ArrayMaker" (150 : Nat) ({ cls := "java/lang/System", name := "arraycopy", desc := "(Ljava/lang/Object;ILjava/lang/Object;II)V" } : Jvm.MethodName)) ∈ lw_all := lw_g (lw_at lw_m2 68 rfl) rfl
theorem q336 : (Jvm.Cond.methodLink "ArrayMaker" (168 : Nat) ({ cls := "ArrayMaker$Shape", name := "next", desc := "([I)V" } : Jvm.MethodName)) ∈ lw_all := lw_g (lw_at lw_m2 69 rfl) rfl
theorem q341 : (Jvm.Cond.instanceMethod ({ cls := "ArrayMaker", name := "cut", desc := "(I)I" } : Jvm.MethodName)) ∈ lw_all := lw_g (lw_at lw_m2 74 rfl) rfl
theorem q342 : (Jvm.Cond.selects "ArrayMaker" ({ cls := "ArrayMaker", name := "cut", desc := "(I)I" } : Jvm.MethodName) ({ cls := "ArrayMaker", name := "cut", desc := "(I)I" } : Jvm.MethodName)) ∈ lw_all := lw_g (lw_at lw_m2 75 rfl) rfl
theorem q343 : (Jvm.Cond.code ({ cls := "ArrayMaker", name := "cut", desc := "(I)I" } : Jvm.MethodName) prog_1_method_24_code (8 : Nat) (Option.some Jvm.ClassFile.FieldType.int)) ∈ lw_all := lw_g (lw_at lw_m2 76 rfl) rfl
theorem q344 : (Jvm.Cond.methodLink "ArrayMaker" (171 : Nat) ({ cls := "ArrayMaker$Shape", name := "beyond", desc := "([I)I" } : Jvm.MethodName)) ∈ lw_all := lw_g (lw_at lw_m2 77 rfl) rfl
theorem q352 : (Jvm.Cond.methodLink "ArrayMaker" (174 : Nat) ({ cls := "ArrayMaker", name := "beyond", desc := "(I)I" } : Jvm.MethodName)) ∈ lw_all := lw_g (lw_at lw_m2 85 rfl) rfl
theorem q353 : (Jvm.Cond.privateMethod ({ cls := "ArrayMaker", name := "beyond", desc := "(I)I" } : Jvm.MethodName)) ∈ lw_tbl := lw_at lw_m2 86 rfl
theorem q354 : (Jvm.Cond.instanceMethod ({ cls := "ArrayMaker", name := "beyond", desc := "(I)I" } : Jvm.MethodName)) ∈ lw_all := lw_g (lw_at lw_m2 87 rfl) rfl
theorem q355 : (Jvm.Cond.code ({ cls := "ArrayMaker", name := "beyond", desc := "(I)I" } : Jvm.MethodName) prog_1_method_3_code (2 : Nat) (Option.some Jvm.ClassFile.FieldType.int)) ∈ lw_all := lw_g (lw_at lw_m2 88 rfl) rfl
theorem q357 : (Jvm.Cond.instanceMethod ({ cls := "ArrayMaker", name := "deep", desc := "(I)I" } : Jvm.MethodName)) ∈ lw_all := lw_g (lw_at lw_m2 90 rfl) rfl
theorem q358 : (Jvm.Cond.selects "ArrayMaker" ({ cls := "ArrayMaker", name := "deep", desc := "(I)I" } : Jvm.MethodName) ({ cls := "ArrayMaker", name := "deep", desc := "(I)I" } : Jvm.MethodName)) ∈ lw_all := lw_g (lw_at lw_m2 91 rfl) rfl
theorem q359 : (Jvm.Cond.codeWith ({ cls := "ArrayMaker", name := "deep", desc := "(I)I" } : Jvm.MethodName) prog_1_method_25_code (8 : Nat) (Option.some Jvm.ClassFile.FieldType.int) [((25 : Nat), (52 : Nat), (168 : Nat), (176 : Nat)), ((53 : Nat), (70 : Nat), (168 : Nat), (176 : Nat)), ((71 : Nat), (86 : Nat), (168 : Nat), (176 : Nat)), ((87 : Nat), (167 : Nat), (168 : Nat), (176 : Nat))]) ∈ lw_all := lw_g (lw_at lw_m2 92 rfl) rfl
theorem q360 : (Jvm.Cond.classLink "ArrayMaker" (176 : Nat) "java/lang/ClassCastException") ∈ lw_all := lw_g (lw_at lw_m2 93 rfl) rfl
theorem q375 : (Jvm.Cond.instanceMethod ({ cls := "ArrayMaker", name := "flat", desc := "(I)I" } : Jvm.MethodName)) ∈ lw_all := lw_g (lw_at lw_m2 108 rfl) rfl
theorem q376 : (Jvm.Cond.selects "ArrayMaker" ({ cls := "ArrayMaker", name := "flat", desc := "(I)I" } : Jvm.MethodName) ({ cls := "ArrayMaker", name := "flat", desc := "(I)I" } : Jvm.MethodName)) ∈ lw_all := lw_g (lw_at lw_m2 109 rfl) rfl
theorem q377 : (Jvm.Cond.codeWith ({ cls := "ArrayMaker", name := "flat", desc := "(I)I" } : Jvm.MethodName) prog_1_method_26_code (10 : Nat) (Option.some Jvm.ClassFile.FieldType.int) [((25 : Nat), (82 : Nat), (176 : Nat), (176 : Nat)), ((83 : Nat), (104 : Nat), (176 : Nat), (176 : Nat)), ((105 : Nat), (175 : Nat), (176 : Nat), (176 : Nat)), ((25 : Nat), (82 : Nat), (183 : Nat), (178 : Nat)), ((83 : Nat), (104 : Nat), (183 : Nat), (178 : Nat)), ((105 : Nat), (175 : Nat), (183 : Nat), (178 : Nat))]) ∈ lw_all := lw_g (lw_at lw_m2 110 rfl) rfl
theorem q378 : (Jvm.Cond.classLink "ArrayMaker" (178 : Nat) "java/lang/NullPointerException") ∈ lw_all := lw_g (lw_at lw_m2 111 rfl) rfl
theorem q404 : (Jvm.Cond.instanceMethod ({ cls := "ArrayMaker", name := "ragged", desc := "(III)I" } : Jvm.MethodName)) ∈ lw_all := lw_g (lw_at lw_m2 137 rfl) rfl
theorem q405 : (Jvm.Cond.selects "ArrayMaker" ({ cls := "ArrayMaker", name := "ragged", desc := "(III)I" } : Jvm.MethodName) ({ cls := "ArrayMaker", name := "ragged", desc := "(III)I" } : Jvm.MethodName)) ∈ lw_all := lw_g (lw_at lw_m2 138 rfl) rfl
theorem q406 : (Jvm.Cond.codeWith ({ cls := "ArrayMaker", name := "ragged", desc := "(III)I" } : Jvm.MethodName) prog_1_method_27_code (6 : Nat) (Option.some Jvm.ClassFile.FieldType.int) [((26 : Nat), (55 : Nat), (89 : Nat), (176 : Nat)), ((56 : Nat), (67 : Nat), (89 : Nat), (176 : Nat)), ((68 : Nat), (88 : Nat), (89 : Nat), (176 : Nat)), ((26 : Nat), (55 : Nat), (97 : Nat), (141 : Nat)), ((56 : Nat), (67 : Nat), (97 : Nat), (141 : Nat)), ((68 : Nat), (88 : Nat), (97 : Nat), (141 : Nat))]) ∈ lw_all := lw_g (lw_at lw_m2 139 rfl) rfl
theorem q407 : (Jvm.Cond.methodLink "ArrayMaker" (180 : Nat) ({ cls := "ArrayMaker$Shape", name := "has", desc := "(II)Z" } : Jvm.MethodName)) ∈ lw_all := lw_g (lw_at lw_m2 140 rfl) rfl
theorem q409 : (Jvm.Cond.instanceMethod ({ cls := "ArrayMaker", name := "without", desc := "(II)I" } : Jvm.MethodName)) ∈ lw_all := lw_g (lw_at lw_m2 142 rfl) rfl
theorem q410 : (Jvm.Cond.selects "ArrayMaker" ({ cls := "ArrayMaker", name := "without", desc := "(II)I" } : Jvm.MethodName) ({ cls := "ArrayMaker", name := "without", desc := "(II)I" } : Jvm.MethodName)) ∈ lw_all := lw_g (lw_at lw_m2 143 rfl) rfl
theorem q411 : (Jvm.Cond.codeWith ({ cls := "ArrayMaker", name := "without", desc := "(II)I" } : Jvm.MethodName) prog_1_method_28_code (5 : Nat) (Option.some Jvm.ClassFile.FieldType.int) [((25 : Nat), (53 : Nat), (72 : Nat), (176 : Nat)), ((54 : Nat), (71 : Nat), (72 : Nat), (176 : Nat))]) ∈ lw_all := lw_g (lw_at lw_m2 144 rfl) rfl
theorem q413 : (Jvm.Cond.instanceMethod ({ cls := "ArrayMaker", name := "tie", desc := "(IIII)I" } : Jvm.MethodName)) ∈ lw_all := lw_g (lw_at lw_m2 146 rfl) rfl
theorem q414 : (Jvm.Cond.selects "ArrayMaker" ({ cls := "ArrayMaker", name := "tie", desc := "(IIII)I" } : Jvm.MethodName) ({ cls := "ArrayMaker", name := "tie", desc := "(IIII)I" } : Jvm.MethodName)) ∈ lw_all := lw_g (lw_at lw_m2 147 rfl) rfl
theorem q415 : (Jvm.Cond.codeWith ({ cls := "ArrayMaker", name := "tie", desc := "(IIII)I" } : Jvm.MethodName) prog_1_method_29_code (9 : Nat) (Option.some Jvm.ClassFile.FieldType.int) [((45 : Nat), (88 : Nat), (137 : Nat), (176 : Nat)), ((89 : Nat), (105 : Nat), (137 : Nat), (176 : Nat)), ((106 : Nat), (136 : Nat), (137 : Nat), (176 : Nat))]) ∈ lw_all := lw_g (lw_at lw_m2 148 rfl) rfl
theorem q417 : (Jvm.Cond.instanceMethod ({ cls := "ArrayMaker", name := "get", desc := "(IIII)J" } : Jvm.MethodName)) ∈ lw_all := lw_g (lw_at lw_m2 150 rfl) rfl
theorem q418 : (Jvm.Cond.selects "ArrayMaker" ({ cls := "ArrayMaker", name := "get", desc := "(IIII)J" } : Jvm.MethodName) ({ cls := "ArrayMaker", name := "get", desc := "(IIII)J" } : Jvm.MethodName)) ∈ lw_all := lw_g (lw_at lw_m2 151 rfl) rfl
theorem q419 : (Jvm.Cond.codeWith ({ cls := "ArrayMaker", name := "get", desc := "(IIII)J" } : Jvm.MethodName) prog_1_method_32_code (10 : Nat) (Option.some Jvm.ClassFile.FieldType.long) [((46 : Nat), (70 : Nat), (153 : Nat), (178 : Nat)), ((71 : Nat), (103 : Nat), (153 : Nat), (178 : Nat)), ((104 : Nat), (128 : Nat), (153 : Nat), (178 : Nat)), ((129 : Nat), (152 : Nat), (153 : Nat), (178 : Nat)), ((46 : Nat), (70 : Nat), (162 : Nat), (117 : Nat)), ((71 : Nat), (103 : Nat), (162 : Nat), (117 : Nat)), ((104 : Nat), (128 : Nat), (162 : Nat), (117 : Nat)), ((129 : Nat), (152 : Nat), (162 : Nat), (117 : Nat))]) ∈ lw_all := lw_g (lw_at lw_m2 152 rfl) rfl
theorem q420 : (Jvm.Cond.methodLink "ArrayMaker" (184 : Nat) ({ cls := "ArrayMaker", name := "lay", desc := "(III)V" } : Jvm.MethodName)) ∈ lw_all := lw_g (lw_at lw_m2 153 rfl) rfl
theorem q421 : (Jvm.Cond.privateMethod ({ cls := "ArrayMaker", name := "lay", desc := "(III)V" } : Jvm.MethodName)) ∈ lw_tbl := lw_at lw_m2 154 rfl
theorem q422 : (Jvm.Cond.instanceMethod ({ cls := "ArrayMaker", name := "lay", desc := "(III)V" } : Jvm.MethodName)) ∈ lw_all := lw_g (lw_at lw_m2 155 rfl) rfl
theorem q423 : (Jvm.Cond.code ({ cls := "ArrayMaker", name := "lay", desc := "(III)V" } : Jvm.MethodName) prog_1_method_30_code (4 : Nat) (Option.none : Option Jvm.ClassFile.FieldType)) ∈ lw_all := lw_g (lw_at lw_m2 156 rfl) rfl
theorem q424 : (Jvm.Cond.methodLink "ArrayMaker" (188 : Nat) ({ cls := "ArrayMaker", name := "within", desc := "(LArrayMaker$Shape;I)I" } : Jvm.MethodName)) ∈ lw_all := lw_g (lw_at lw_m2 157 rfl) rfl
theorem q425 : (Jvm.Cond.static ({ cls := "ArrayMaker", name := "within", desc := "(LArrayMaker$Shape;I)I" } : Jvm.MethodName)) ∈ lw_all := lw_g (lw_at lw_m2 158 rfl) rfl
theorem q426 : (Jvm.Cond.code ({ cls := "ArrayMaker", name := "within", desc := "(LArrayMaker$Shape;I)I" } : Jvm.MethodName) prog_1_method_31_code (4 : Nat) (Option.some Jvm.ClassFile.FieldType.int)) ∈ lw_all := lw_g (lw_at lw_m2 159 rfl) rfl
theorem q427 : (Jvm.Cond.methodLink "ArrayMaker" (84 : Nat) ({ cls := "ArrayMaker", name := "at", desc := "(Ljava/lang/Object;I)J" } : Jvm.MethodName)) ∈ lw_all := lw_g (lw_at lw_m2 160 rfl) rfl
theorem q428 : (Jvm.Cond.static ({ cls := "ArrayMaker", name := "at", desc := "(Ljava/lang/Object;I)J" } : Jvm.MethodName)) ∈ lw_all := lw_g (lw_at lw_m2 161 rfl) rfl
theorem q429 : (Jvm.Cond.code ({ cls := "ArrayMaker", name := "at", desc := "(Ljava/lang/Object;I)J" } : Jvm.MethodName) prog_1_method_9_code (2 : Nat) (Option.some Jvm.ClassFile.FieldType.long)) ∈ lw_all := lw_g (lw_at lw_m2 162 rfl) rfl
theorem q431 : (Jvm.Cond.instanceMethod ({ cls := "ArrayMaker", name := "put", desc := "(IIIIJ)I" } : Jvm.MethodName)) ∈ lw_all := lw_g (lw_at lw_m2 164 rfl) rfl
theorem q432 : (Jvm.Cond.selects "ArrayMaker" ({ cls := "ArrayMaker", name := "put", desc := "(IIIIJ)I" } : Jvm.MethodName) ({ cls := "ArrayMaker", name := "put", desc := "(IIIIJ)I" } : Jvm.MethodName)) ∈ lw_all := lw_g (lw_at lw_m2 165 rfl) rfl
theorem q433 : (Jvm.Cond.codeWith ({ cls := "ArrayMaker", name := "put", desc := "(IIIIJ)I" } : Jvm.MethodName) prog_1_method_33_code (10 : Nat) (Option.some Jvm.ClassFile.FieldType.int) [((45 : Nat), (68 : Nat), (146 : Nat), (178 : Nat)), ((69 : Nat), (99 : Nat), (146 : Nat), (178 : Nat)), ((100 : Nat), (123 : Nat), (146 : Nat), (178 : Nat)), ((124 : Nat), (145 : Nat), (146 : Nat), (178 : Nat)), ((45 : Nat), (68 : Nat), (154 : Nat), (117 : Nat)), ((69 : Nat), (99 : Nat), (154 : Nat), (117 : Nat)), ((100 : Nat), (123 : Nat), (154 : Nat), (117 : Nat)), ((124 : Nat), (145 : Nat), (154 : Nat), (117 : Nat))]) ∈ lw_all := lw_g (lw_at lw_m2 166 rfl) rfl
theorem q434 : (Jvm.Cond.methodLink "ArrayMaker" (92 : Nat) ({ cls := "ArrayMaker", name := "put", desc := "(Ljava/lang/Object;IJ)V" } : Jvm.MethodName)) ∈ lw_all := lw_g (lw_at lw_m2 167 rfl) rfl
theorem q435 : (Jvm.Cond.static ({ cls := "ArrayMaker", name := "put", desc := "(Ljava/lang/Object;IJ)V" } : Jvm.MethodName)) ∈ lw_all := lw_g (lw_at lw_m2 168 rfl) rfl
theorem q436 : (Jvm.Cond.code ({ cls := "ArrayMaker", name := "put", desc := "(Ljava/lang/Object;IJ)V" } : Jvm.MethodName) prog_1_method_10_code (4 : Nat) (Option.none : Option Jvm.ClassFile.FieldType)) ∈ lw_all := lw_g (lw_at lw_m2 169 rfl) rfl
theorem q438 : (Jvm.Cond.methodLink "ArrayMaker" (72 : Nat) ({ cls := "ArrayMaker$Box", name := "<init>", desc := "(J)V" } : Jvm.MethodName)) ∈ lw_all := lw_g (lw_at lw_m2 171 rfl) rfl
theorem q443 : (Jvm.Cond.fieldLinkNest "ArrayMaker" (68 : Nat) "ArrayMaker$Box" "number" "J" "ArrayMaker") ∈ lw_tbl := lw_at lw_m2 176 rfl
theorem q448 : (Jvm.Cond.instanceMethod ({ cls := "ArrayMaker", name := "empty", desc := "(IIII)I" } : Jvm.MethodName)) ∈ lw_all := lw_g (lw_at lw_m2 181 rfl) rfl
theorem q449 : (Jvm.Cond.selects "ArrayMaker" ({ cls := "ArrayMaker", name := "empty", desc := "(IIII)I" } : Jvm.MethodName) ({ cls := "ArrayMaker", name := "empty", desc := "(IIII)I" } : Jvm.MethodName)) ∈ lw_all := lw_g (lw_at lw_m2 182 rfl) rfl
theorem q450 : (Jvm.Cond.codeWith ({ cls := "ArrayMaker", name := "empty", desc := "(IIII)I" } : Jvm.MethodName) prog_1_method_34_code (7 : Nat) (Option.some Jvm.ClassFile.FieldType.int) [((23 : Nat), (67 : Nat), (94 : Nat), (176 : Nat)), ((68 : Nat), (93 : Nat), (94 : Nat), (176 : Nat))]) ∈ lw_all := lw_g (lw_at lw_m2 183 rfl) rfl
theorem q452 : (Jvm.Cond.instanceMethod ({ cls := "ArrayMaker", name := "pair", desc := "(IIIJ)I" } : Jvm.MethodName)) ∈ lw_all := lw_g (lw_at lw_m2 185 rfl) rfl
theorem q453 : (Jvm.Cond.selects "ArrayMaker" ({ cls := "ArrayMaker", name := "pair", desc := "(IIIJ)I" } : Jvm.MethodName) ({ cls := "ArrayMaker", name := "pair", desc := "(IIIJ)I" } : Jvm.MethodName)) ∈ lw_all := lw_g (lw_at lw_m2 186 rfl) rfl
theorem q454 : (Jvm.Cond.code ({ cls := "ArrayMaker", name := "pair", desc := "(IIIJ)I" } : Jvm.MethodName) prog_1_method_35_code (6 : Nat) (Option.some Jvm.ClassFile.FieldType.int)) ∈ lw_all := lw_g (lw_at lw_m2 187 rfl) rfl
theorem q456 : (Jvm.Cond.instanceMethod ({ cls := "ArrayMaker", name := "gather", desc := "(II)I" } : Jvm.MethodName)) ∈ lw_all := lw_g (lw_at lw_m2 189 rfl) rfl
theorem q457 : (Jvm.Cond.selects "ArrayMaker" ({ cls := "ArrayMaker", name := "gather", desc := "(II)I" } : Jvm.MethodName) ({ cls := "ArrayMaker", name := "gather", desc := "(II)I" } : Jvm.MethodName)) ∈ lw_all := lw_g (lw_at lw_m2 190 rfl) rfl
theorem q458 : (Jvm.Cond.codeWith ({ cls := "ArrayMaker", name := "gather", desc := "(II)I" } : Jvm.MethodName) prog_1_method_36_code (7 : Nat) (Option.some Jvm.ClassFile.FieldType.int) [((64 : Nat), (116 : Nat), (147 : Nat), (199 : Nat)), ((117 : Nat), (144 : Nat), (147 : Nat), (199 : Nat))]) ∈ lw_all := lw_g (lw_at lw_m2 191 rfl) rfl
theorem q459 : (Jvm.Cond.classLink "ArrayMaker" (199 : Nat) "java/lang/ArithmeticException") ∈ lw_all := lw_g (lw_at lw_m2 192 rfl) rfl
theorem q473 : (Jvm.Cond.methodLink "ArrayMaker" (195 : Nat) ({ cls := "ArrayMaker", name := "join", desc := "(Ljava/lang/Object;IJI)V" } : Jvm.MethodName)) ∈ lw_all := lw_g (lw_at lw_m2 206 rfl) rfl
theorem q474 : (Jvm.Cond.static ({ cls := "ArrayMaker", name := "join", desc := "(Ljava/lang/Object;IJI)V" } : Jvm.MethodName)) ∈ lw_all := lw_g (lw_at lw_m2 207 rfl) rfl
theorem q475 : (Jvm.Cond.code ({ cls := "ArrayMaker", name := "join", desc := "(Ljava/lang/Object;IJI)V" } : Jvm.MethodName) prog_1_method_12_code (6 : Nat) (Option.none : Option Jvm.ClassFile.FieldType)) ∈ lw_all := lw_g (lw_at lw_m2 208 rfl) rfl
theorem q476 : (Jvm.Cond.methodLink "ArrayMaker" (88 : Nat) ({ cls := "ArrayMaker", name := "joined", desc := "(JJI)J" } : Jvm.MethodName)) ∈ lw_all := lw_g (lw_at lw_m2 209 rfl) rfl
theorem q477 : (Jvm.Cond.static ({ cls := "ArrayMaker", name := "joined", desc := "(JJI)J" } : Jvm.MethodName)) ∈ lw_all := lw_g (lw_at lw_m2 210 rfl) rfl
theorem q478 : (Jvm.Cond.code ({ cls := "ArrayMaker", name := "joined", desc := "(JJI)J" } : Jvm.MethodName) prog_1_method_11_code (5 : Nat) (Option.some Jvm.ClassFile.FieldType.long)) ∈ lw_all := lw_g (lw_at lw_m2 211 rfl) rfl
theorem q479 : (Jvm.Cond.methodLink "ArrayMaker" (75 : Nat) ({ cls := "java/lang/Math", name := "max", desc := "(JJ)J" } : Jvm.MethodName)) ∈ lw_all := lw_g (lw_at lw_m2 212 rfl) rfl
theorem q480 : (Jvm.Cond.methodLink "ArrayMaker" (81 : Nat) ({ cls := "java/lang/Math", name := "min", desc := "(JJ)J" } : Jvm.MethodName)) ∈ lw_all := lw_g (lw_at lw_m2 213 rfl) rfl
theorem q482 : (Jvm.Cond.instanceMethod ({ cls := "ArrayMaker", name := "join", desc := "(III)I" } : Jvm.MethodName)) ∈ lw_all := lw_g (lw_at lw_m2 215 rfl) rfl
theorem q483 : (Jvm.Cond.selects "ArrayMaker" ({ cls := "ArrayMaker", name := "join", desc := "(III)I" } : Jvm.MethodName) ({ cls := "ArrayMaker", name := "join", desc := "(III)I" } : Jvm.MethodName)) ∈ lw_all := lw_g (lw_at lw_m2 216 rfl) rfl
theorem q484 : (Jvm.Cond.codeWith ({ cls := "ArrayMaker", name := "join", desc := "(III)I" } : Jvm.MethodName) prog_1_method_37_code (8 : Nat) (Option.some Jvm.ClassFile.FieldType.int) [((112 : Nat), (143 : Nat), (146 : Nat), (178 : Nat)), ((112 : Nat), (143 : Nat), (156 : Nat), (199 : Nat))]) ∈ lw_all := lw_g (lw_at lw_m2 217 rfl) rfl
theorem q486 : (Jvm.Cond.instanceMethod ({ cls := "ArrayMaker", name := "sum", desc := "(I)J" } : Jvm.MethodName)) ∈ lw_all := lw_g (lw_at lw_m2 219 rfl) rfl
theorem q487 : (Jvm.Cond.selects "ArrayMaker" ({ cls := "ArrayMaker", name := "sum", desc := "(I)J" } : Jvm.MethodName) ({ cls := "ArrayMaker", name := "sum", desc := "(I)J" } : Jvm.MethodName)) ∈ lw_all := lw_g (lw_at lw_m2 220 rfl) rfl
theorem q488 : (Jvm.Cond.code ({ cls := "ArrayMaker", name := "sum", desc := "(I)J" } : Jvm.MethodName) prog_1_method_39_code (9 : Nat) (Option.some Jvm.ClassFile.FieldType.long)) ∈ lw_all := lw_g (lw_at lw_m2 221 rfl) rfl
theorem q489 : (Jvm.Cond.methodLink "ArrayMaker" (201 : Nat) ({ cls := "ArrayMaker", name := "sumOf", desc := "(Ljava/lang/Object;)J" } : Jvm.MethodName)) ∈ lw_all := lw_g (lw_at lw_m2 222 rfl) rfl
theorem q490 : (Jvm.Cond.static ({ cls := "ArrayMaker", name := "sumOf", desc := "(Ljava/lang/Object;)J" } : Jvm.MethodName)) ∈ lw_all := lw_g (lw_at lw_m2 223 rfl) rfl
theorem q491 : (Jvm.Cond.code ({ cls := "ArrayMaker", name := "sumOf", desc := "(Ljava/lang/Object;)J" } : Jvm.MethodName) prog_1_method_38_code (5 : Nat) (Option.some Jvm.ClassFile.FieldType.long)) ∈ lw_all := lw_g (lw_at lw_m2 224 rfl) rfl
theorem q493 : (Jvm.Cond.instanceMethod ({ cls := "ArrayMaker", name := "mean", desc := "(I)J" } : Jvm.MethodName)) ∈ lw_all := lw_g (lw_at lw_m2 226 rfl) rfl
theorem q494 : (Jvm.Cond.selects "ArrayMaker" ({ cls := "ArrayMaker", name := "mean", desc := "(I)J" } : Jvm.MethodName) ({ cls := "ArrayMaker", name := "mean", desc := "(I)J" } : Jvm.MethodName)) ∈ lw_all := lw_g (lw_at lw_m2 227 rfl) rfl
theorem q495 : (Jvm.Cond.codeWith ({ cls := "ArrayMaker", name := "mean", desc := "(I)J" } : Jvm.MethodName) prog_1_method_40_code (5 : Nat) (Option.some Jvm.ClassFile.FieldType.long) [((41 : Nat), (58 : Nat), (59 : Nat), (199 : Nat))]) ∈ lw_all := lw_g (lw_at lw_m2 228 rfl) rfl
theorem q497 : (Jvm.Cond.instanceMethod ({ cls := "ArrayMaker", name := "about", desc := "(II)I" } : Jvm.MethodName)) ∈ lw_all := lw_g (lw_at lw_m2 230 rfl) rfl
theorem q498 : (Jvm.Cond.selects "ArrayMaker" ({ cls := "ArrayMaker", name := "about", desc := "(II)I" } : Jvm.MethodName) ({ cls := "ArrayMaker", name := "about", desc := "(II)I" } : Jvm.MethodName)) ∈ lw_all := lw_g (lw_at lw_m2 231 rfl) rfl
theorem q499 : (Jvm.Cond.code ({ cls := "ArrayMaker", name := "about", desc := "(II)I" } : Jvm.MethodName) prog_1_method_42_code (5 : Nat) (Option.some Jvm.ClassFile.FieldType.int)) ∈ lw_all := lw_g (lw_at lw_m2 232 rfl) rfl
theorem q500 : (Jvm.Cond.methodLink "ArrayMaker" (205 : Nat) ({ cls := "ArrayMaker", name := "itemsOf", desc := "(Ljava/lang/Object;)I" } : Jvm.MethodName)) ∈ lw_all := lw_g (lw_at lw_m2 233 rfl) rfl
theorem q501 : (Jvm.Cond.static ({ cls := "ArrayMaker", name := "itemsOf", desc := "(Ljava/lang/Object;)I" } : Jvm.MethodName)) ∈ lw_all := lw_g (lw_at lw_m2 234 rfl) rfl
theorem q502 : (Jvm.Cond.code ({ cls := "ArrayMaker", name := "itemsOf", desc := "(Ljava/lang/Object;)I" } : Jvm.MethodName) prog_1_method_41_code (6 : Nat) (Option.some Jvm.ClassFile.FieldType.int)) ∈ lw_all := lw_g (lw_at lw_m2 235 rfl) rfl
theorem q504 : (Jvm.Cond.instanceMethod ({ cls := "ArrayMaker", name := "same", desc := "(II)I" } : Jvm.MethodName)) ∈ lw_all := lw_g (lw_at lw_m2 237 rfl) rfl
theorem q505 : (Jvm.Cond.selects "ArrayMaker" ({ cls := "ArrayMaker", name := "same", desc := "(II)I" } : Jvm.MethodName) ({ cls := "ArrayMaker", name := "same", desc := "(II)I" } : Jvm.MethodName)) ∈ lw_all := lw_g (lw_at lw_m2 238 rfl) rfl
theorem q506 : (Jvm.Cond.code ({ cls := "ArrayMaker", name := "same", desc := "(II)I" } : Jvm.MethodName) prog_1_method_44_code (6 : Nat) (Option.some Jvm.ClassFile.FieldType.int)) ∈ lw_all := lw_g (lw_at lw_m2 239 rfl) rfl
theorem q507 : (Jvm.Cond.methodLink "ArrayMaker" (208 : Nat) ({ cls := "ArrayMaker", name := "sameRows", desc := "([[I[[I)Z" } : Jvm.MethodName)) ∈ lw_all := lw_g (lw_at lw_m3 0 rfl) rfl
theorem q508 : (Jvm.Cond.static ({ cls := "ArrayMaker", name := "sameRows", desc := "([[I[[I)Z" } : Jvm.MethodName)) ∈ lw_all := lw_g (lw_at lw_m3 1 rfl) rfl
theorem q509 : (Jvm.Cond.code ({ cls := "ArrayMaker", name := "sameRows", desc := "([[I[[I)Z" } : Jvm.MethodName) prog_1_method_43_code (4 : Nat) (Option.some Jvm.ClassFile.FieldType.boolean)) ∈ lw_all := lw_g (lw_at lw_m3 2 rfl) rfl
theorem q511 : (Jvm.Cond.instanceMethod ({ cls := "ArrayMaker", name := "compare", desc := "(II)I" } : Jvm.MethodName)) ∈ lw_all := lw_g (lw_at lw_m3 4 rfl) rfl
theorem q512 : (Jvm.Cond.selects "ArrayMaker" ({ cls := "ArrayMaker", name := "compare", desc := "(II)I" } : Jvm.MethodName) ({ cls := "ArrayMaker", name := "compare", desc := "(II)I" } : Jvm.MethodName)) ∈ lw_all := lw_g (lw_at lw_m3 5 rfl) rfl
theorem q513 : (Jvm.Cond.code ({ cls := "ArrayMaker", name := "compare", desc := "(II)I" } : Jvm.MethodName) prog_1_method_45_code (7 : Nat) (Option.some Jvm.ClassFile.FieldType.int)) ∈ lw_all := lw_g (lw_at lw_m3 6 rfl) rfl
theorem q514 : (Jvm.Cond.methodLink "ArrayMaker" (212 : Nat) ({ cls := "java/lang/Math", name := "min", desc := "(II)I" } : Jvm.MethodName)) ∈ lw_all := lw_g (lw_at lw_m3 7 rfl) rfl
theorem q517 : (Jvm.Cond.methodLink "ArrayMaker" (215 : Nat) ({ cls := "java/lang/Integer", name := "compare", desc := "(II)I" } : Jvm.MethodName)) ∈ lw_all := lw_g (lw_at lw_m3 10 rfl) rfl
theorem q521 : (Jvm.Cond.instanceMethod ({ cls := "ArrayMaker", name := "clear", desc := "()I" } : Jvm.MethodName)) ∈ lw_all := lw_g (lw_at lw_m3 14 rfl) rfl
theorem q522 : (Jvm.Cond.selects "ArrayMaker" ({ cls := "ArrayMaker", name := "clear", desc := "()I" } : Jvm.MethodName) ({ cls := "ArrayMaker", name := "clear", desc := "()I" } : Jvm.MethodName)) ∈ lw_all := lw_g (lw_at lw_m3 15 rfl) rfl
theorem q523 : (Jvm.Cond.code ({ cls := "ArrayMaker", name := "clear", desc := "()I" } : Jvm.MethodName) prog_1_method_46_code (3 : Nat) (Option.some Jvm.ClassFile.FieldType.int)) ∈ lw_all := lw_g (lw_at lw_m3 16 rfl) rfl
theorem in_X0 : ∀ w ∈ wsX00, w ∈ lw_all := lw_in wsX00 [103, 105, 107, 109, 111, 113, 115, 117, 119, 121, 123] (by decide +kernel) (by decide +kernel)
