/-! ArrayMakerModel -/
set_option maxRecDepth 100000
def RX3 : String := "ArrayMakerModel"
def TX3 : u_T := fun k => match k with
  | 0 => ("ArrayMakerModel", "code", "I", false)
  | 1 => ("ArrayMakerModel", "which", "I", false)
  | 2 => ("ArrayMakerModel", "dimensions", "I", false)
  | 3 => ("ArrayMakerModel", "low", "[I", true)
  | 4 => ("ArrayMakerModel", "high", "[I", true)
  | 5 => ("ArrayMakerModel", "arrays", "I", false)
  | 6 => ("ArrayMakerModel", "kinds", "[I", true)
  | 7 => ("ArrayMakerModel", "ranks", "[I", true)
  | 8 => ("ArrayMakerModel", "lows", "[I", true)
  | 9 => ("ArrayMakerModel", "highs", "[I", true)
  | 10 => ("ArrayMakerModel", "rowOf", "[I", true)
  | 11 => ("ArrayMakerModel", "rows", "I", false)
  | 12 => ("ArrayMakerModel", "rowAt", "[I", true)
  | 13 => ("ArrayMakerModel", "rowSize", "[I", true)
  | 14 => ("ArrayMakerModel", "pooled", "I", false)
  | 15 => ("ArrayMakerModel", "pool", "[J", true)
  | 16 => ("ArrayMakerModel", "hasBox", "[Z", true)
  | 17 => ("ArrayMakerModel", "slots", "I", false)
  | 18 => ("ArrayMakerModel", "slot", "[I", true)
  | 19 => ("ArrayMakerModel", "lines", "I", false)
  | 20 => ("ArrayMakerModel", "lineI", "[I", true)
  | 21 => ("ArrayMakerModel", "lineJ", "[I", true)
  | 22 => ("ArrayMakerModel", "lineK", "[I", true)
  | 23 => ("ArrayMakerModel", "lineV", "[J", true)
  | _ => ("ArrayMakerModel", "beyond", "I", false)
def tyX3 : Nat → FieldType := fun k => match k with
  | 0 => .int
  | 1 => .int
  | 2 => .int
  | 3 => .array .int
  | 4 => .array .int
  | 5 => .int
  | 6 => .array .int
  | 7 => .array .int
  | 8 => .array .int
  | 9 => .array .int
  | 10 => .array .int
  | 11 => .int
  | 12 => .array .int
  | 13 => .array .int
  | 14 => .int
  | 15 => .array .long
  | 16 => .array .boolean
  | 17 => .int
  | 18 => .array .int
  | 19 => .int
  | 20 => .array .int
  | 21 => .array .int
  | 22 => .array .int
  | 23 => .array .long
  | _ => .int
abbrev wsX30 : List Cond := u_ws RX3 TX3 25
set_option maxRecDepth 100000 in
theorem nmX3 : ∀ a, a < 25 → ∀ b, b < 25 → a ≠ b → (TX3 a).2.1 ≠ (TX3 b).2.1 := by decide +kernel
set_option maxRecDepth 100000 in
theorem tyX3_ok : ∀ k, k < 25 → parseFieldDescriptor (TX3 k).2.2.1 = some (tyX3 k) := by decide +kernel
abbrev cX3_init : ByteArray := prog_6_method_1_code
def yX3_init : MethodName := ⟨RX3, "<init>", "()V"⟩
def dkwX3_init_5 : List UInt8 := [188, 10, 181, 0, 56, 42, 16, 30, 188, 10, 181, 0, 59, 42, 16, 30, 188, 11, 181, 0, 62, 177]
abbrev dktX3_init_5 : List UInt8 := dkwX3_init_5 ++ []
def dkwX3_init_4 : List UInt8 := [181, 0, 46, 42, 17, 47, 68, 188, 10, 181, 0, 50, 42, 16, 30, 188, 10, 181, 0, 53, 42, 16, 30]
abbrev dktX3_init_4 : List UInt8 := dkwX3_init_4 ++ dktX3_init_5
def dkwX3_init_3 : List UInt8 := [42, 17, 50, 200, 188, 10, 181, 0, 38, 42, 18, 41, 188, 11, 181, 0, 42, 42, 18, 41, 188, 4]
abbrev dktX3_init_3 : List UInt8 := dkwX3_init_3 ++ dktX3_init_4
def dkwX3_init_2 : List UInt8 := [16, 72, 188, 10, 181, 0, 29, 42, 16, 24, 188, 10, 181, 0, 32, 42, 17, 50, 200, 188, 10, 181, 0, 35]
abbrev dktX3_init_2 : List UInt8 := dkwX3_init_2 ++ dktX3_init_3
def dkwX3_init_1 : List UInt8 := [16, 24, 188, 10, 181, 0, 20, 42, 16, 24, 188, 10, 181, 0, 23, 42, 16, 72, 188, 10, 181, 0, 26, 42]
abbrev dktX3_init_1 : List UInt8 := dkwX3_init_1 ++ dktX3_init_2
def dkwX3_init_0 : List UInt8 := [42, 183, 0, 1, 42, 2, 181, 0, 9, 42, 6, 188, 10, 181, 0, 13, 42, 6, 188, 10, 181, 0, 17, 42]
abbrev dktX3_init_0 : List UInt8 := dkwX3_init_0 ++ dktX3_init_1
theorem dksX3_init_0 : cX3_init.data.toList.drop 0 = dktX3_init_0 := by decide +kernel
theorem dksX3_init_1 : cX3_init.data.toList.drop 24 = dktX3_init_1 := dk_seg dksX3_init_0 24 rfl rfl
theorem dksX3_init_2 : cX3_init.data.toList.drop 48 = dktX3_init_2 := dk_seg dksX3_init_1 24 rfl rfl
theorem dksX3_init_3 : cX3_init.data.toList.drop 72 = dktX3_init_3 := dk_seg dksX3_init_2 24 rfl rfl
theorem dksX3_init_4 : cX3_init.data.toList.drop 94 = dktX3_init_4 := dk_seg dksX3_init_3 22 rfl rfl
theorem dksX3_init_5 : cX3_init.data.toList.drop 117 = dktX3_init_5 := dk_seg dksX3_init_4 23 rfl rfl
theorem dX3_init_0 : decode cX3_init 0 = .ok (.aload_n 0, 1) := dk_42 (dk_at dksX3_init_0 0 rfl rfl)
theorem dX3_init_1 : decode cX3_init 1 = .ok (.invokespecial 1, 3) := dk_183 0 1 (dk_at dksX3_init_0 1 rfl rfl)
theorem dX3_init_4 : decode cX3_init 4 = .ok (.aload_n 0, 1) := dk_42 (dk_at dksX3_init_0 4 rfl rfl)
theorem dX3_init_5 : decode cX3_init 5 = .ok (.iconst (-1), 1) := dk_2 (dk_at dksX3_init_0 5 rfl rfl)
theorem dX3_init_6 : decode cX3_init 6 = .ok (.putfield 9, 3) := dk_181 0 9 (dk_at dksX3_init_0 6 rfl rfl)
theorem dX3_init_9 : decode cX3_init 9 = .ok (.aload_n 0, 1) := dk_42 (dk_at dksX3_init_0 9 rfl rfl)
theorem dX3_init_10 : decode cX3_init 10 = .ok (.iconst 3, 1) := dk_6 (dk_at dksX3_init_0 10 rfl rfl)
theorem dX3_init_11 : decode cX3_init 11 = .ok (.newarray .int, 2) := dk_188_10 (dk_at dksX3_init_0 11 rfl rfl)
theorem dX3_init_13 : decode cX3_init 13 = .ok (.putfield 13, 3) := dk_181 0 13 (dk_at dksX3_init_0 13 rfl rfl)
theorem dX3_init_16 : decode cX3_init 16 = .ok (.aload_n 0, 1) := dk_42 (dk_at dksX3_init_0 16 rfl rfl)
theorem dX3_init_17 : decode cX3_init 17 = .ok (.iconst 3, 1) := dk_6 (dk_at dksX3_init_0 17 rfl rfl)
theorem dX3_init_18 : decode cX3_init 18 = .ok (.newarray .int, 2) := dk_188_10 (dk_at dksX3_init_0 18 rfl rfl)
theorem dX3_init_20 : decode cX3_init 20 = .ok (.putfield 17, 3) := dk_181 0 17 (dk_at dksX3_init_0 20 rfl rfl)
theorem dX3_init_23 : decode cX3_init 23 = .ok (.aload_n 0, 1) := dk_42 (dk_at dksX3_init_0 23 rfl rfl)
theorem dX3_init_24 : decode cX3_init 24 = .ok (.bipush 24, 2) := dk_16 24 (dk_at dksX3_init_1 0 rfl rfl)
theorem dX3_init_26 : decode cX3_init 26 = .ok (.newarray .int, 2) := dk_188_10 (dk_at dksX3_init_1 2 rfl rfl)
theorem dX3_init_28 : decode cX3_init 28 = .ok (.putfield 20, 3) := dk_181 0 20 (dk_at dksX3_init_1 4 rfl rfl)
theorem dX3_init_31 : decode cX3_init 31 = .ok (.aload_n 0, 1) := dk_42 (dk_at dksX3_init_1 7 rfl rfl)
theorem dX3_init_32 : decode cX3_init 32 = .ok (.bipush 24, 2) := dk_16 24 (dk_at dksX3_init_1 8 rfl rfl)
theorem dX3_init_34 : decode cX3_init 34 = .ok (.newarray .int, 2) := dk_188_10 (dk_at dksX3_init_1 10 rfl rfl)
theorem dX3_init_36 : decode cX3_init 36 = .ok (.putfield 23, 3) := dk_181 0 23 (dk_at dksX3_init_1 12 rfl rfl)
theorem dX3_init_39 : decode cX3_init 39 = .ok (.aload_n 0, 1) := dk_42 (dk_at dksX3_init_1 15 rfl rfl)
theorem dX3_init_40 : decode cX3_init 40 = .ok (.bipush 72, 2) := dk_16 72 (dk_at dksX3_init_1 16 rfl rfl)
theorem dX3_init_42 : decode cX3_init 42 = .ok (.newarray .int, 2) := dk_188_10 (dk_at dksX3_init_1 18 rfl rfl)
theorem dX3_init_44 : decode cX3_init 44 = .ok (.putfield 26, 3) := dk_181 0 26 (dk_at dksX3_init_1 20 rfl rfl)
theorem dX3_init_47 : decode cX3_init 47 = .ok (.aload_n 0, 1) := dk_42 (dk_at dksX3_init_1 23 rfl rfl)
theorem dX3_init_48 : decode cX3_init 48 = .ok (.bipush 72, 2) := dk_16 72 (dk_at dksX3_init_2 0 rfl rfl)
theorem dX3_init_50 : decode cX3_init 50 = .ok (.newarray .int, 2) := dk_188_10 (dk_at dksX3_init_2 2 rfl rfl)
theorem dX3_init_52 : decode cX3_init 52 = .ok (.putfield 29, 3) := dk_181 0 29 (dk_at dksX3_init_2 4 rfl rfl)
theorem dX3_init_55 : decode cX3_init 55 = .ok (.aload_n 0, 1) := dk_42 (dk_at dksX3_init_2 7 rfl rfl)
theorem dX3_init_56 : decode cX3_init 56 = .ok (.bipush 24, 2) := dk_16 24 (dk_at dksX3_init_2 8 rfl rfl)
theorem dX3_init_58 : decode cX3_init 58 = .ok (.newarray .int, 2) := dk_188_10 (dk_at dksX3_init_2 10 rfl rfl)
theorem dX3_init_60 : decode cX3_init 60 = .ok (.putfield 32, 3) := dk_181 0 32 (dk_at dksX3_init_2 12 rfl rfl)
theorem dX3_init_63 : decode cX3_init 63 = .ok (.aload_n 0, 1) := dk_42 (dk_at dksX3_init_2 15 rfl rfl)
theorem dX3_init_64 : decode cX3_init 64 = .ok (.sipush 13000, 3) := dk_17 50 200 (dk_at dksX3_init_2 16 rfl rfl)
theorem dX3_init_67 : decode cX3_init 67 = .ok (.newarray .int, 2) := dk_188_10 (dk_at dksX3_init_2 19 rfl rfl)
theorem dX3_init_69 : decode cX3_init 69 = .ok (.putfield 35, 3) := dk_181 0 35 (dk_at dksX3_init_2 21 rfl rfl)
theorem dX3_init_72 : decode cX3_init 72 = .ok (.aload_n 0, 1) := dk_42 (dk_at dksX3_init_3 0 rfl rfl)
theorem dX3_init_73 : decode cX3_init 73 = .ok (.sipush 13000, 3) := dk_17 50 200 (dk_at dksX3_init_3 1 rfl rfl)
theorem dX3_init_76 : decode cX3_init 76 = .ok (.newarray .int, 2) := dk_188_10 (dk_at dksX3_init_3 4 rfl rfl)
theorem dX3_init_78 : decode cX3_init 78 = .ok (.putfield 38, 3) := dk_181 0 38 (dk_at dksX3_init_3 6 rfl rfl)
theorem dX3_init_81 : decode cX3_init 81 = .ok (.aload_n 0, 1) := dk_42 (dk_at dksX3_init_3 9 rfl rfl)
theorem dX3_init_82 : decode cX3_init 82 = .ok (.ldc 41, 2) := dk_18 41 (dk_at dksX3_init_3 10 rfl rfl)
theorem dX3_init_84 : decode cX3_init 84 = .ok (.newarray .long, 2) := dk_188_11 (dk_at dksX3_init_3 12 rfl rfl)
theorem dX3_init_86 : decode cX3_init 86 = .ok (.putfield 42, 3) := dk_181 0 42 (dk_at dksX3_init_3 14 rfl rfl)
theorem dX3_init_89 : decode cX3_init 89 = .ok (.aload_n 0, 1) := dk_42 (dk_at dksX3_init_3 17 rfl rfl)
theorem dX3_init_90 : decode cX3_init 90 = .ok (.ldc 41, 2) := dk_18 41 (dk_at dksX3_init_3 18 rfl rfl)
theorem dX3_init_92 : decode cX3_init 92 = .ok (.newarray .boolean, 2) := dk_188_4 (dk_at dksX3_init_3 20 rfl rfl)
theorem dX3_init_94 : decode cX3_init 94 = .ok (.putfield 46, 3) := dk_181 0 46 (dk_at dksX3_init_4 0 rfl rfl)
theorem dX3_init_97 : decode cX3_init 97 = .ok (.aload_n 0, 1) := dk_42 (dk_at dksX3_init_4 3 rfl rfl)
theorem dX3_init_98 : decode cX3_init 98 = .ok (.sipush 12100, 3) := dk_17 47 68 (dk_at dksX3_init_4 4 rfl rfl)
theorem dX3_init_101 : decode cX3_init 101 = .ok (.newarray .int, 2) := dk_188_10 (dk_at dksX3_init_4 7 rfl rfl)
theorem dX3_init_103 : decode cX3_init 103 = .ok (.putfield 50, 3) := dk_181 0 50 (dk_at dksX3_init_4 9 rfl rfl)
theorem dX3_init_106 : decode cX3_init 106 = .ok (.aload_n 0, 1) := dk_42 (dk_at dksX3_init_4 12 rfl rfl)
theorem dX3_init_107 : decode cX3_init 107 = .ok (.bipush 30, 2) := dk_16 30 (dk_at dksX3_init_4 13 rfl rfl)
theorem dX3_init_109 : decode cX3_init 109 = .ok (.newarray .int, 2) := dk_188_10 (dk_at dksX3_init_4 15 rfl rfl)
theorem dX3_init_111 : decode cX3_init 111 = .ok (.putfield 53, 3) := dk_181 0 53 (dk_at dksX3_init_4 17 rfl rfl)
theorem dX3_init_114 : decode cX3_init 114 = .ok (.aload_n 0, 1) := dk_42 (dk_at dksX3_init_4 20 rfl rfl)
theorem dX3_init_115 : decode cX3_init 115 = .ok (.bipush 30, 2) := dk_16 30 (dk_at dksX3_init_4 21 rfl rfl)
theorem dX3_init_117 : decode cX3_init 117 = .ok (.newarray .int, 2) := dk_188_10 (dk_at dksX3_init_5 0 rfl rfl)
theorem dX3_init_119 : decode cX3_init 119 = .ok (.putfield 56, 3) := dk_181 0 56 (dk_at dksX3_init_5 2 rfl rfl)
theorem dX3_init_122 : decode cX3_init 122 = .ok (.aload_n 0, 1) := dk_42 (dk_at dksX3_init_5 5 rfl rfl)
theorem dX3_init_123 : decode cX3_init 123 = .ok (.bipush 30, 2) := dk_16 30 (dk_at dksX3_init_5 6 rfl rfl)
theorem dX3_init_125 : decode cX3_init 125 = .ok (.newarray .int, 2) := dk_188_10 (dk_at dksX3_init_5 8 rfl rfl)
theorem dX3_init_127 : decode cX3_init 127 = .ok (.putfield 59, 3) := dk_181 0 59 (dk_at dksX3_init_5 10 rfl rfl)
theorem dX3_init_130 : decode cX3_init 130 = .ok (.aload_n 0, 1) := dk_42 (dk_at dksX3_init_5 13 rfl rfl)
theorem dX3_init_131 : decode cX3_init 131 = .ok (.bipush 30, 2) := dk_16 30 (dk_at dksX3_init_5 14 rfl rfl)
theorem dX3_init_133 : decode cX3_init 133 = .ok (.newarray .long, 2) := dk_188_11 (dk_at dksX3_init_5 16 rfl rfl)
theorem dX3_init_135 : decode cX3_init 135 = .ok (.putfield 62, 3) := dk_181 0 62 (dk_at dksX3_init_5 18 rfl rfl)
theorem dX3_init_138 : decode cX3_init 138 = .ok (.return_, 1) := dk_177 (dk_at dksX3_init_5 21 rfl rfl)
abbrev cX3_code : ByteArray := prog_6_method_4_code
def yX3_code : MethodName := ⟨RX3, "code", "()I"⟩
theorem dX3_code_0 : decode cX3_code 0 = .ok (.aload_n 0, 1) := by decide +kernel
theorem dX3_code_1 : decode cX3_code 1 = .ok (.getfield 65, 3) := by decide +kernel
theorem dX3_code_4 : decode cX3_code 4 = .ok (.ireturn, 1) := by decide +kernel
abbrev cX3_which : ByteArray := prog_6_method_5_code
def yX3_which : MethodName := ⟨RX3, "which", "()I"⟩
theorem dX3_which_0 : decode cX3_which 0 = .ok (.aload_n 0, 1) := by decide +kernel
theorem dX3_which_1 : decode cX3_which 1 = .ok (.getfield 9, 3) := by decide +kernel
theorem dX3_which_4 : decode cX3_which 4 = .ok (.ireturn, 1) := by decide +kernel
abbrev cX3_range : ByteArray := prog_6_method_9_code
def yX3_range : MethodName := ⟨RX3, "range", "(II)I"⟩
def dkwX3_range_2 : List UInt8 := [180, 0, 72, 182, 0, 75, 172]
abbrev dktX3_range_2 : List UInt8 := dkwX3_range_2 ++ []
def dkwX3_range_1 : List UInt8 := [79, 42, 180, 0, 17, 42, 180, 0, 72, 28, 79, 42, 89, 180, 0, 72, 4, 96, 181, 0, 72, 42, 42]
abbrev dktX3_range_1 : List UInt8 := dkwX3_range_1 ++ dktX3_range_2
def dkwX3_range_0 : List UInt8 := [42, 180, 0, 72, 6, 160, 0, 10, 42, 16, 8, 182, 0, 68, 172, 42, 180, 0, 13, 42, 180, 0, 72, 27]
abbrev dktX3_range_0 : List UInt8 := dkwX3_range_0 ++ dktX3_range_1
theorem dksX3_range_0 : cX3_range.data.toList.drop 0 = dktX3_range_0 := by decide +kernel
theorem dksX3_range_1 : cX3_range.data.toList.drop 24 = dktX3_range_1 := dk_seg dksX3_range_0 24 rfl rfl
theorem dksX3_range_2 : cX3_range.data.toList.drop 47 = dktX3_range_2 := dk_seg dksX3_range_1 23 rfl rfl
theorem dX3_range_0 : decode cX3_range 0 = .ok (.aload_n 0, 1) := dk_42 (dk_at dksX3_range_0 0 rfl rfl)
theorem dX3_range_1 : decode cX3_range 1 = .ok (.getfield 72, 3) := dk_180 0 72 (dk_at dksX3_range_0 1 rfl rfl)
theorem dX3_range_4 : decode cX3_range 4 = .ok (.iconst 3, 1) := dk_6 (dk_at dksX3_range_0 4 rfl rfl)
theorem dX3_range_5 : decode cX3_range 5 = .ok (.if_icmp .ne 10, 3) := dk_160 0 10 (dk_at dksX3_range_0 5 rfl rfl)
theorem dX3_range_8 : decode cX3_range 8 = .ok (.aload_n 0, 1) := dk_42 (dk_at dksX3_range_0 8 rfl rfl)
theorem dX3_range_9 : decode cX3_range 9 = .ok (.bipush 8, 2) := dk_16 8 (dk_at dksX3_range_0 9 rfl rfl)
theorem dX3_range_11 : decode cX3_range 11 = .ok (.invokevirtual 68, 3) := dk_182 0 68 (dk_at dksX3_range_0 11 rfl rfl)
theorem dX3_range_14 : decode cX3_range 14 = .ok (.ireturn, 1) := dk_172 (dk_at dksX3_range_0 14 rfl rfl)
theorem dX3_range_15 : decode cX3_range 15 = .ok (.aload_n 0, 1) := dk_42 (dk_at dksX3_range_0 15 rfl rfl)
theorem dX3_range_16 : decode cX3_range 16 = .ok (.getfield 13, 3) := dk_180 0 13 (dk_at dksX3_range_0 16 rfl rfl)
theorem dX3_range_19 : decode cX3_range 19 = .ok (.aload_n 0, 1) := dk_42 (dk_at dksX3_range_0 19 rfl rfl)
theorem dX3_range_20 : decode cX3_range 20 = .ok (.getfield 72, 3) := dk_180 0 72 (dk_at dksX3_range_0 20 rfl rfl)
theorem dX3_range_23 : decode cX3_range 23 = .ok (.iload_n 1, 1) := dk_27 (dk_at dksX3_range_0 23 rfl rfl)
theorem dX3_range_24 : decode cX3_range 24 = .ok (.iastore, 1) := dk_79 (dk_at dksX3_range_1 0 rfl rfl)
theorem dX3_range_25 : decode cX3_range 25 = .ok (.aload_n 0, 1) := dk_42 (dk_at dksX3_range_1 1 rfl rfl)
theorem dX3_range_26 : decode cX3_range 26 = .ok (.getfield 17, 3) := dk_180 0 17 (dk_at dksX3_range_1 2 rfl rfl)
theorem dX3_range_29 : decode cX3_range 29 = .ok (.aload_n 0, 1) := dk_42 (dk_at dksX3_range_1 5 rfl rfl)
theorem dX3_range_30 : decode cX3_range 30 = .ok (.getfield 72, 3) := dk_180 0 72 (dk_at dksX3_range_1 6 rfl rfl)
theorem dX3_range_33 : decode cX3_range 33 = .ok (.iload_n 2, 1) := dk_28 (dk_at dksX3_range_1 9 rfl rfl)
theorem dX3_range_34 : decode cX3_range 34 = .ok (.iastore, 1) := dk_79 (dk_at dksX3_range_1 10 rfl rfl)
theorem dX3_range_35 : decode cX3_range 35 = .ok (.aload_n 0, 1) := dk_42 (dk_at dksX3_range_1 11 rfl rfl)
theorem dX3_range_36 : decode cX3_range 36 = .ok (.dup, 1) := dk_89 (dk_at dksX3_range_1 12 rfl rfl)
theorem dX3_range_37 : decode cX3_range 37 = .ok (.getfield 72, 3) := dk_180 0 72 (dk_at dksX3_range_1 13 rfl rfl)
theorem dX3_range_40 : decode cX3_range 40 = .ok (.iconst 1, 1) := dk_4 (dk_at dksX3_range_1 16 rfl rfl)
theorem dX3_range_41 : decode cX3_range 41 = .ok (.iadd, 1) := dk_96 (dk_at dksX3_range_1 17 rfl rfl)
theorem dX3_range_42 : decode cX3_range 42 = .ok (.putfield 72, 3) := dk_181 0 72 (dk_at dksX3_range_1 18 rfl rfl)
theorem dX3_range_45 : decode cX3_range 45 = .ok (.aload_n 0, 1) := dk_42 (dk_at dksX3_range_1 21 rfl rfl)
theorem dX3_range_46 : decode cX3_range 46 = .ok (.aload_n 0, 1) := dk_42 (dk_at dksX3_range_1 22 rfl rfl)
theorem dX3_range_47 : decode cX3_range 47 = .ok (.getfield 72, 3) := dk_180 0 72 (dk_at dksX3_range_2 0 rfl rfl)
theorem dX3_range_50 : decode cX3_range 50 = .ok (.invokevirtual 75, 3) := dk_182 0 75 (dk_at dksX3_range_2 3 rfl rfl)
theorem dX3_range_53 : decode cX3_range 53 = .ok (.ireturn, 1) := dk_172 (dk_at dksX3_range_2 6 rfl rfl)
abbrev cX3_no : ByteArray := prog_6_method_6_code
def yX3_no : MethodName := ⟨RX3, "no", "(I)I"⟩
def dkwX3_no_0 : List UInt8 := [42, 27, 181, 0, 65, 3, 172]
abbrev dktX3_no_0 : List UInt8 := dkwX3_no_0 ++ []
theorem dksX3_no_0 : cX3_no.data.toList.drop 0 = dktX3_no_0 := by decide +kernel
theorem dX3_no_0 : decode cX3_no 0 = .ok (.aload_n 0, 1) := dk_42 (dk_at dksX3_no_0 0 rfl rfl)
theorem dX3_no_1 : decode cX3_no 1 = .ok (.iload_n 1, 1) := dk_27 (dk_at dksX3_no_0 1 rfl rfl)
theorem dX3_no_2 : decode cX3_no 2 = .ok (.putfield 65, 3) := dk_181 0 65 (dk_at dksX3_no_0 2 rfl rfl)
theorem dX3_no_5 : decode cX3_no 5 = .ok (.iconst 0, 1) := dk_3 (dk_at dksX3_no_0 5 rfl rfl)
theorem dX3_no_6 : decode cX3_no 6 = .ok (.ireturn, 1) := dk_172 (dk_at dksX3_no_0 6 rfl rfl)
abbrev cX3_yes : ByteArray := prog_6_method_8_code
def yX3_yes : MethodName := ⟨RX3, "yes", "(I)I"⟩
def dkwX3_yes_0 : List UInt8 := [42, 3, 181, 0, 65, 27, 172]
abbrev dktX3_yes_0 : List UInt8 := dkwX3_yes_0 ++ []
theorem dksX3_yes_0 : cX3_yes.data.toList.drop 0 = dktX3_yes_0 := by decide +kernel
theorem dX3_yes_0 : decode cX3_yes 0 = .ok (.aload_n 0, 1) := dk_42 (dk_at dksX3_yes_0 0 rfl rfl)
theorem dX3_yes_1 : decode cX3_yes 1 = .ok (.iconst 0, 1) := dk_3 (dk_at dksX3_yes_0 1 rfl rfl)
theorem dX3_yes_2 : decode cX3_yes 2 = .ok (.putfield 65, 3) := dk_181 0 65 (dk_at dksX3_yes_0 2 rfl rfl)
theorem dX3_yes_5 : decode cX3_yes 5 = .ok (.iload_n 1, 1) := dk_27 (dk_at dksX3_yes_0 5 rfl rfl)
theorem dX3_yes_6 : decode cX3_yes 6 = .ok (.ireturn, 1) := dk_172 (dk_at dksX3_yes_0 6 rfl rfl)
abbrev cX3_shapeless : ByteArray := prog_6_method_10_code
def yX3_shapeless : MethodName := ⟨RX3, "shapeless", "()I"⟩
def dkwX3_shapeless_0 : List UInt8 := [42, 180, 0, 72, 60, 42, 3, 181, 0, 72, 42, 27, 182, 0, 75, 172]
abbrev dktX3_shapeless_0 : List UInt8 := dkwX3_shapeless_0 ++ []
theorem dksX3_shapeless_0 : cX3_shapeless.data.toList.drop 0 = dktX3_shapeless_0 := by decide +kernel
theorem dX3_shapeless_0 : decode cX3_shapeless 0 = .ok (.aload_n 0, 1) := dk_42 (dk_at dksX3_shapeless_0 0 rfl rfl)
theorem dX3_shapeless_1 : decode cX3_shapeless 1 = .ok (.getfield 72, 3) := dk_180 0 72 (dk_at dksX3_shapeless_0 1 rfl rfl)
theorem dX3_shapeless_4 : decode cX3_shapeless 4 = .ok (.istore_n 1, 1) := dk_60 (dk_at dksX3_shapeless_0 4 rfl rfl)
theorem dX3_shapeless_5 : decode cX3_shapeless 5 = .ok (.aload_n 0, 1) := dk_42 (dk_at dksX3_shapeless_0 5 rfl rfl)
theorem dX3_shapeless_6 : decode cX3_shapeless 6 = .ok (.iconst 0, 1) := dk_3 (dk_at dksX3_shapeless_0 6 rfl rfl)
theorem dX3_shapeless_7 : decode cX3_shapeless 7 = .ok (.putfield 72, 3) := dk_181 0 72 (dk_at dksX3_shapeless_0 7 rfl rfl)
theorem dX3_shapeless_10 : decode cX3_shapeless 10 = .ok (.aload_n 0, 1) := dk_42 (dk_at dksX3_shapeless_0 10 rfl rfl)
theorem dX3_shapeless_11 : decode cX3_shapeless 11 = .ok (.iload_n 1, 1) := dk_27 (dk_at dksX3_shapeless_0 11 rfl rfl)
theorem dX3_shapeless_12 : decode cX3_shapeless 12 = .ok (.invokevirtual 75, 3) := dk_182 0 75 (dk_at dksX3_shapeless_0 12 rfl rfl)
theorem dX3_shapeless_15 : decode cX3_shapeless 15 = .ok (.ireturn, 1) := dk_172 (dk_at dksX3_shapeless_0 15 rfl rfl)
abbrev cX3_make : ByteArray := prog_6_method_19_code
def yX3_make : MethodName := ⟨RX3, "make", "(I)I"⟩
def dkwX3_make_6 : List UInt8 := [182, 0, 75, 172]
abbrev dktX3_make_6 : List UInt8 := dkwX3_make_6 ++ []
def dkwX3_make_5 : List UInt8 := [182, 0, 125, 167, 0, 14, 42, 180, 0, 32, 29, 42, 28, 182, 0, 111, 79, 42, 3, 181, 0, 72, 42, 29]
abbrev dktX3_make_5 : List UInt8 := dkwX3_make_5 ++ dktX3_make_6
def dkwX3_make_4 : List UInt8 := [160, 0, 10, 42, 16, 8, 182, 0, 68, 172, 42, 27, 2, 182, 0, 121, 62, 27, 7, 160, 0, 11, 42, 29]
abbrev dktX3_make_4 : List UInt8 := dkwX3_make_4 ++ dktX3_make_5
def dkwX3_make_3 : List UInt8 := [184, 0, 78, 20, 0, 82, 148, 158, 0, 9, 42, 8, 182, 0, 68, 172, 42, 180, 0, 98, 16, 24]
abbrev dktX3_make_3 : List UInt8 := dkwX3_make_3 ++ dktX3_make_4
def dkwX3_make_2 : List UInt8 := [17, 1, 244, 163, 0, 30, 27, 7, 160, 0, 31, 42, 180, 0, 13, 3, 46, 42, 180, 0, 17, 3, 46]
abbrev dktX3_make_2 : List UInt8 := dkwX3_make_2 ++ dktX3_make_3
def dkwX3_make_1 : List UInt8 := [160, 0, 18, 42, 180, 0, 72, 5, 159, 0, 10, 42, 16, 9, 182, 0, 68, 172, 42, 182, 0, 117, 61, 28]
abbrev dktX3_make_1 : List UInt8 := dkwX3_make_1 ++ dktX3_make_2
def dkwX3_make_0 : List UInt8 := [27, 133, 9, 20, 0, 114, 184, 0, 101, 154, 0, 6, 18, 116, 172, 42, 180, 0, 72, 153, 0, 16, 27, 7]
abbrev dktX3_make_0 : List UInt8 := dkwX3_make_0 ++ dktX3_make_1
theorem dksX3_make_0 : cX3_make.data.toList.drop 0 = dktX3_make_0 := by decide +kernel
theorem dksX3_make_1 : cX3_make.data.toList.drop 24 = dktX3_make_1 := dk_seg dksX3_make_0 24 rfl rfl
theorem dksX3_make_2 : cX3_make.data.toList.drop 48 = dktX3_make_2 := dk_seg dksX3_make_1 24 rfl rfl
theorem dksX3_make_3 : cX3_make.data.toList.drop 71 = dktX3_make_3 := dk_seg dksX3_make_2 23 rfl rfl
theorem dksX3_make_4 : cX3_make.data.toList.drop 93 = dktX3_make_4 := dk_seg dksX3_make_3 22 rfl rfl
theorem dksX3_make_5 : cX3_make.data.toList.drop 117 = dktX3_make_5 := dk_seg dksX3_make_4 24 rfl rfl
theorem dksX3_make_6 : cX3_make.data.toList.drop 141 = dktX3_make_6 := dk_seg dksX3_make_5 24 rfl rfl
theorem dX3_make_0 : decode cX3_make 0 = .ok (.iload_n 1, 1) := dk_27 (dk_at dksX3_make_0 0 rfl rfl)
theorem dX3_make_1 : decode cX3_make 1 = .ok (.i2l, 1) := dk_133 (dk_at dksX3_make_0 1 rfl rfl)
theorem dX3_make_2 : decode cX3_make 2 = .ok (.lconst 0, 1) := dk_9 (dk_at dksX3_make_0 2 rfl rfl)
theorem dX3_make_3 : decode cX3_make 3 = .ok (.ldc2_w 114, 3) := dk_20 0 114 (dk_at dksX3_make_0 3 rfl rfl)
theorem dX3_make_6 : decode cX3_make 6 = .ok (.invokestatic 101, 3) := dk_184 0 101 (dk_at dksX3_make_0 6 rfl rfl)
theorem dX3_make_9 : decode cX3_make 9 = .ok (.ifCond .ne 6, 3) := dk_154 0 6 (dk_at dksX3_make_0 9 rfl rfl)
theorem dX3_make_12 : decode cX3_make 12 = .ok (.ldc 116, 2) := dk_18 116 (dk_at dksX3_make_0 12 rfl rfl)
theorem dX3_make_14 : decode cX3_make 14 = .ok (.ireturn, 1) := dk_172 (dk_at dksX3_make_0 14 rfl rfl)
theorem dX3_make_15 : decode cX3_make 15 = .ok (.aload_n 0, 1) := dk_42 (dk_at dksX3_make_0 15 rfl rfl)
theorem dX3_make_16 : decode cX3_make 16 = .ok (.getfield 72, 3) := dk_180 0 72 (dk_at dksX3_make_0 16 rfl rfl)
theorem dX3_make_19 : decode cX3_make 19 = .ok (.ifCond .eq 16, 3) := dk_153 0 16 (dk_at dksX3_make_0 19 rfl rfl)
theorem dX3_make_22 : decode cX3_make 22 = .ok (.iload_n 1, 1) := dk_27 (dk_at dksX3_make_0 22 rfl rfl)
theorem dX3_make_23 : decode cX3_make 23 = .ok (.iconst 4, 1) := dk_7 (dk_at dksX3_make_0 23 rfl rfl)
theorem dX3_make_24 : decode cX3_make 24 = .ok (.if_icmp .ne 18, 3) := dk_160 0 18 (dk_at dksX3_make_1 0 rfl rfl)
theorem dX3_make_27 : decode cX3_make 27 = .ok (.aload_n 0, 1) := dk_42 (dk_at dksX3_make_1 3 rfl rfl)
theorem dX3_make_28 : decode cX3_make 28 = .ok (.getfield 72, 3) := dk_180 0 72 (dk_at dksX3_make_1 4 rfl rfl)
theorem dX3_make_31 : decode cX3_make 31 = .ok (.iconst 2, 1) := dk_5 (dk_at dksX3_make_1 7 rfl rfl)
theorem dX3_make_32 : decode cX3_make 32 = .ok (.if_icmp .eq 10, 3) := dk_159 0 10 (dk_at dksX3_make_1 8 rfl rfl)
theorem dX3_make_35 : decode cX3_make 35 = .ok (.aload_n 0, 1) := dk_42 (dk_at dksX3_make_1 11 rfl rfl)
theorem dX3_make_36 : decode cX3_make 36 = .ok (.bipush 9, 2) := dk_16 9 (dk_at dksX3_make_1 12 rfl rfl)
theorem dX3_make_38 : decode cX3_make 38 = .ok (.invokevirtual 68, 3) := dk_182 0 68 (dk_at dksX3_make_1 14 rfl rfl)
theorem dX3_make_41 : decode cX3_make 41 = .ok (.ireturn, 1) := dk_172 (dk_at dksX3_make_1 17 rfl rfl)
theorem dX3_make_42 : decode cX3_make 42 = .ok (.aload_n 0, 1) := dk_42 (dk_at dksX3_make_1 18 rfl rfl)
theorem dX3_make_43 : decode cX3_make 43 = .ok (.invokevirtual 117, 3) := dk_182 0 117 (dk_at dksX3_make_1 19 rfl rfl)
theorem dX3_make_46 : decode cX3_make 46 = .ok (.istore_n 2, 1) := dk_61 (dk_at dksX3_make_1 22 rfl rfl)
theorem dX3_make_47 : decode cX3_make 47 = .ok (.iload_n 2, 1) := dk_28 (dk_at dksX3_make_1 23 rfl rfl)
theorem dX3_make_48 : decode cX3_make 48 = .ok (.sipush 500, 3) := dk_17 1 244 (dk_at dksX3_make_2 0 rfl rfl)
theorem dX3_make_51 : decode cX3_make 51 = .ok (.if_icmp .gt 30, 3) := dk_163 0 30 (dk_at dksX3_make_2 3 rfl rfl)
theorem dX3_make_54 : decode cX3_make 54 = .ok (.iload_n 1, 1) := dk_27 (dk_at dksX3_make_2 6 rfl rfl)
theorem dX3_make_55 : decode cX3_make 55 = .ok (.iconst 4, 1) := dk_7 (dk_at dksX3_make_2 7 rfl rfl)
theorem dX3_make_56 : decode cX3_make 56 = .ok (.if_icmp .ne 31, 3) := dk_160 0 31 (dk_at dksX3_make_2 8 rfl rfl)
theorem dX3_make_59 : decode cX3_make 59 = .ok (.aload_n 0, 1) := dk_42 (dk_at dksX3_make_2 11 rfl rfl)
theorem dX3_make_60 : decode cX3_make 60 = .ok (.getfield 13, 3) := dk_180 0 13 (dk_at dksX3_make_2 12 rfl rfl)
theorem dX3_make_63 : decode cX3_make 63 = .ok (.iconst 0, 1) := dk_3 (dk_at dksX3_make_2 15 rfl rfl)
theorem dX3_make_64 : decode cX3_make 64 = .ok (.iaload, 1) := dk_46 (dk_at dksX3_make_2 16 rfl rfl)
theorem dX3_make_65 : decode cX3_make 65 = .ok (.aload_n 0, 1) := dk_42 (dk_at dksX3_make_2 17 rfl rfl)
theorem dX3_make_66 : decode cX3_make 66 = .ok (.getfield 17, 3) := dk_180 0 17 (dk_at dksX3_make_2 18 rfl rfl)
theorem dX3_make_69 : decode cX3_make 69 = .ok (.iconst 0, 1) := dk_3 (dk_at dksX3_make_2 21 rfl rfl)
theorem dX3_make_70 : decode cX3_make 70 = .ok (.iaload, 1) := dk_46 (dk_at dksX3_make_2 22 rfl rfl)
theorem dX3_make_71 : decode cX3_make 71 = .ok (.invokestatic 78, 3) := dk_184 0 78 (dk_at dksX3_make_3 0 rfl rfl)
theorem dX3_make_74 : decode cX3_make 74 = .ok (.ldc2_w 82, 3) := dk_20 0 82 (dk_at dksX3_make_3 3 rfl rfl)
theorem dX3_make_77 : decode cX3_make 77 = .ok (.lcmp, 1) := dk_148 (dk_at dksX3_make_3 6 rfl rfl)
theorem dX3_make_78 : decode cX3_make 78 = .ok (.ifCond .le 9, 3) := dk_158 0 9 (dk_at dksX3_make_3 7 rfl rfl)
theorem dX3_make_81 : decode cX3_make 81 = .ok (.aload_n 0, 1) := dk_42 (dk_at dksX3_make_3 10 rfl rfl)
theorem dX3_make_82 : decode cX3_make 82 = .ok (.iconst 5, 1) := dk_8 (dk_at dksX3_make_3 11 rfl rfl)
theorem dX3_make_83 : decode cX3_make 83 = .ok (.invokevirtual 68, 3) := dk_182 0 68 (dk_at dksX3_make_3 12 rfl rfl)
theorem dX3_make_86 : decode cX3_make 86 = .ok (.ireturn, 1) := dk_172 (dk_at dksX3_make_3 15 rfl rfl)
theorem dX3_make_87 : decode cX3_make 87 = .ok (.aload_n 0, 1) := dk_42 (dk_at dksX3_make_3 16 rfl rfl)
theorem dX3_make_88 : decode cX3_make 88 = .ok (.getfield 98, 3) := dk_180 0 98 (dk_at dksX3_make_3 17 rfl rfl)
theorem dX3_make_91 : decode cX3_make 91 = .ok (.bipush 24, 2) := dk_16 24 (dk_at dksX3_make_3 20 rfl rfl)
theorem dX3_make_93 : decode cX3_make 93 = .ok (.if_icmp .ne 10, 3) := dk_160 0 10 (dk_at dksX3_make_4 0 rfl rfl)
theorem dX3_make_96 : decode cX3_make 96 = .ok (.aload_n 0, 1) := dk_42 (dk_at dksX3_make_4 3 rfl rfl)
theorem dX3_make_97 : decode cX3_make 97 = .ok (.bipush 8, 2) := dk_16 8 (dk_at dksX3_make_4 4 rfl rfl)
theorem dX3_make_99 : decode cX3_make 99 = .ok (.invokevirtual 68, 3) := dk_182 0 68 (dk_at dksX3_make_4 6 rfl rfl)
theorem dX3_make_102 : decode cX3_make 102 = .ok (.ireturn, 1) := dk_172 (dk_at dksX3_make_4 9 rfl rfl)
theorem dX3_make_103 : decode cX3_make 103 = .ok (.aload_n 0, 1) := dk_42 (dk_at dksX3_make_4 10 rfl rfl)
theorem dX3_make_104 : decode cX3_make 104 = .ok (.iload_n 1, 1) := dk_27 (dk_at dksX3_make_4 11 rfl rfl)
theorem dX3_make_105 : decode cX3_make 105 = .ok (.iconst (-1), 1) := dk_2 (dk_at dksX3_make_4 12 rfl rfl)
theorem dX3_make_106 : decode cX3_make 106 = .ok (.invokevirtual 121, 3) := dk_182 0 121 (dk_at dksX3_make_4 13 rfl rfl)
theorem dX3_make_109 : decode cX3_make 109 = .ok (.istore_n 3, 1) := dk_62 (dk_at dksX3_make_4 16 rfl rfl)
theorem dX3_make_110 : decode cX3_make 110 = .ok (.iload_n 1, 1) := dk_27 (dk_at dksX3_make_4 17 rfl rfl)
theorem dX3_make_111 : decode cX3_make 111 = .ok (.iconst 4, 1) := dk_7 (dk_at dksX3_make_4 18 rfl rfl)
theorem dX3_make_112 : decode cX3_make 112 = .ok (.if_icmp .ne 11, 3) := dk_160 0 11 (dk_at dksX3_make_4 19 rfl rfl)
theorem dX3_make_115 : decode cX3_make 115 = .ok (.aload_n 0, 1) := dk_42 (dk_at dksX3_make_4 22 rfl rfl)
theorem dX3_make_116 : decode cX3_make 116 = .ok (.iload_n 3, 1) := dk_29 (dk_at dksX3_make_4 23 rfl rfl)
theorem dX3_make_117 : decode cX3_make 117 = .ok (.invokevirtual 125, 3) := dk_182 0 125 (dk_at dksX3_make_5 0 rfl rfl)
theorem dX3_make_120 : decode cX3_make 120 = .ok (.goto 14, 3) := dk_167 0 14 (dk_at dksX3_make_5 3 rfl rfl)
theorem dX3_make_123 : decode cX3_make 123 = .ok (.aload_n 0, 1) := dk_42 (dk_at dksX3_make_5 6 rfl rfl)
theorem dX3_make_124 : decode cX3_make 124 = .ok (.getfield 32, 3) := dk_180 0 32 (dk_at dksX3_make_5 7 rfl rfl)
theorem dX3_make_127 : decode cX3_make 127 = .ok (.iload_n 3, 1) := dk_29 (dk_at dksX3_make_5 10 rfl rfl)
theorem dX3_make_128 : decode cX3_make 128 = .ok (.aload_n 0, 1) := dk_42 (dk_at dksX3_make_5 11 rfl rfl)
theorem dX3_make_129 : decode cX3_make 129 = .ok (.iload_n 2, 1) := dk_28 (dk_at dksX3_make_5 12 rfl rfl)
theorem dX3_make_130 : decode cX3_make 130 = .ok (.invokevirtual 111, 3) := dk_182 0 111 (dk_at dksX3_make_5 13 rfl rfl)
theorem dX3_make_133 : decode cX3_make 133 = .ok (.iastore, 1) := dk_79 (dk_at dksX3_make_5 16 rfl rfl)
theorem dX3_make_134 : decode cX3_make 134 = .ok (.aload_n 0, 1) := dk_42 (dk_at dksX3_make_5 17 rfl rfl)
theorem dX3_make_135 : decode cX3_make 135 = .ok (.iconst 0, 1) := dk_3 (dk_at dksX3_make_5 18 rfl rfl)
theorem dX3_make_136 : decode cX3_make 136 = .ok (.putfield 72, 3) := dk_181 0 72 (dk_at dksX3_make_5 19 rfl rfl)
theorem dX3_make_139 : decode cX3_make 139 = .ok (.aload_n 0, 1) := dk_42 (dk_at dksX3_make_5 22 rfl rfl)
theorem dX3_make_140 : decode cX3_make 140 = .ok (.iload_n 3, 1) := dk_29 (dk_at dksX3_make_5 23 rfl rfl)
theorem dX3_make_141 : decode cX3_make 141 = .ok (.invokevirtual 75, 3) := dk_182 0 75 (dk_at dksX3_make_6 0 rfl rfl)
theorem dX3_make_144 : decode cX3_make 144 = .ok (.ireturn, 1) := dk_172 (dk_at dksX3_make_6 3 rfl rfl)
abbrev cX3_within : ByteArray := prog_6_method_3_code
def yX3_within : MethodName := ⟨RX3, "within", "(JJJ)Z"⟩
def dkwX3_within_0 : List UInt8 := [30, 32, 148, 155, 0, 14, 30, 22, 4, 148, 157, 0, 7, 4, 167, 0, 4, 3, 172]
abbrev dktX3_within_0 : List UInt8 := dkwX3_within_0 ++ []
theorem dksX3_within_0 : cX3_within.data.toList.drop 0 = dktX3_within_0 := by decide +kernel
theorem dX3_within_0 : decode cX3_within 0 = .ok (.lload_n 0, 1) := dk_30 (dk_at dksX3_within_0 0 rfl rfl)
theorem dX3_within_1 : decode cX3_within 1 = .ok (.lload_n 2, 1) := dk_32 (dk_at dksX3_within_0 1 rfl rfl)
theorem dX3_within_2 : decode cX3_within 2 = .ok (.lcmp, 1) := dk_148 (dk_at dksX3_within_0 2 rfl rfl)
theorem dX3_within_3 : decode cX3_within 3 = .ok (.ifCond .lt 14, 3) := dk_155 0 14 (dk_at dksX3_within_0 3 rfl rfl)
theorem dX3_within_6 : decode cX3_within 6 = .ok (.lload_n 0, 1) := dk_30 (dk_at dksX3_within_0 6 rfl rfl)
theorem dX3_within_7 : decode cX3_within 7 = .ok (.lload 4, 2) := dk_22 4 (dk_at dksX3_within_0 7 rfl rfl)
theorem dX3_within_9 : decode cX3_within 9 = .ok (.lcmp, 1) := dk_148 (dk_at dksX3_within_0 9 rfl rfl)
theorem dX3_within_10 : decode cX3_within 10 = .ok (.ifCond .gt 7, 3) := dk_157 0 7 (dk_at dksX3_within_0 10 rfl rfl)
theorem dX3_within_13 : decode cX3_within 13 = .ok (.iconst 1, 1) := dk_4 (dk_at dksX3_within_0 13 rfl rfl)
theorem dX3_within_14 : decode cX3_within 14 = .ok (.goto 4, 3) := dk_167 0 4 (dk_at dksX3_within_0 14 rfl rfl)
theorem dX3_within_17 : decode cX3_within 17 = .ok (.iconst 0, 1) := dk_3 (dk_at dksX3_within_0 17 rfl rfl)
theorem dX3_within_18 : decode cX3_within 18 = .ok (.ireturn, 1) := dk_172 (dk_at dksX3_within_0 18 rfl rfl)
abbrev cX3_shapeItems : ByteArray := prog_6_method_12_code
def yX3_shapeItems : MethodName := ⟨RX3, "shapeItems", "()I"⟩
def dkwX3_shapeItems_3 : List UInt8 := [32, 65, 132, 4, 1, 167, 255, 187, 27, 153, 0, 7, 3, 167, 0, 5, 32, 136, 172]
abbrev dktX3_shapeItems_3 : List UInt8 := dkwX3_shapeItems_3 ++ []
def dkwX3_shapeItems_2 : List UInt8 := [167, 0, 4, 3, 60, 32, 22, 5, 105, 65, 32, 20, 0, 82, 148, 158, 0, 9, 20, 0, 84, 167, 0, 4]
abbrev dktX3_shapeItems_2 : List UInt8 := dkwX3_shapeItems_2 ++ dktX3_shapeItems_3
def dkwX3_shapeItems_1 : List UInt8 := [180, 0, 17, 21, 4, 46, 184, 0, 78, 55, 5, 27, 154, 0, 10, 22, 5, 9, 148, 154, 0, 7, 4]
abbrev dktX3_shapeItems_1 : List UInt8 := dkwX3_shapeItems_1 ++ dktX3_shapeItems_2
def dkwX3_shapeItems_0 : List UInt8 := [3, 60, 10, 65, 3, 54, 4, 21, 4, 42, 180, 0, 72, 162, 0, 66, 42, 180, 0, 13, 21, 4, 46, 42]
abbrev dktX3_shapeItems_0 : List UInt8 := dkwX3_shapeItems_0 ++ dktX3_shapeItems_1
theorem dksX3_shapeItems_0 : cX3_shapeItems.data.toList.drop 0 = dktX3_shapeItems_0 := by decide +kernel
theorem dksX3_shapeItems_1 : cX3_shapeItems.data.toList.drop 24 = dktX3_shapeItems_1 := dk_seg dksX3_shapeItems_0 24 rfl rfl
theorem dksX3_shapeItems_2 : cX3_shapeItems.data.toList.drop 47 = dktX3_shapeItems_2 := dk_seg dksX3_shapeItems_1 23 rfl rfl
theorem dksX3_shapeItems_3 : cX3_shapeItems.data.toList.drop 71 = dktX3_shapeItems_3 := dk_seg dksX3_shapeItems_2 24 rfl rfl
theorem dX3_shapeItems_0 : decode cX3_shapeItems 0 = .ok (.iconst 0, 1) := dk_3 (dk_at dksX3_shapeItems_0 0 rfl rfl)
theorem dX3_shapeItems_1 : decode cX3_shapeItems 1 = .ok (.istore_n 1, 1) := dk_60 (dk_at dksX3_shapeItems_0 1 rfl rfl)
theorem dX3_shapeItems_2 : decode cX3_shapeItems 2 = .ok (.lconst 1, 1) := dk_10 (dk_at dksX3_shapeItems_0 2 rfl rfl)
theorem dX3_shapeItems_3 : decode cX3_shapeItems 3 = .ok (.lstore_n 2, 1) := dk_65 (dk_at dksX3_shapeItems_0 3 rfl rfl)
theorem dX3_shapeItems_4 : decode cX3_shapeItems 4 = .ok (.iconst 0, 1) := dk_3 (dk_at dksX3_shapeItems_0 4 rfl rfl)
theorem dX3_shapeItems_5 : decode cX3_shapeItems 5 = .ok (.istore 4, 2) := dk_54 4 (dk_at dksX3_shapeItems_0 5 rfl rfl)
theorem dX3_shapeItems_7 : decode cX3_shapeItems 7 = .ok (.iload 4, 2) := dk_21 4 (dk_at dksX3_shapeItems_0 7 rfl rfl)
theorem dX3_shapeItems_9 : decode cX3_shapeItems 9 = .ok (.aload_n 0, 1) := dk_42 (dk_at dksX3_shapeItems_0 9 rfl rfl)
theorem dX3_shapeItems_10 : decode cX3_shapeItems 10 = .ok (.getfield 72, 3) := dk_180 0 72 (dk_at dksX3_shapeItems_0 10 rfl rfl)
theorem dX3_shapeItems_13 : decode cX3_shapeItems 13 = .ok (.if_icmp .ge 66, 3) := dk_162 0 66 (dk_at dksX3_shapeItems_0 13 rfl rfl)
theorem dX3_shapeItems_16 : decode cX3_shapeItems 16 = .ok (.aload_n 0, 1) := dk_42 (dk_at dksX3_shapeItems_0 16 rfl rfl)
theorem dX3_shapeItems_17 : decode cX3_shapeItems 17 = .ok (.getfield 13, 3) := dk_180 0 13 (dk_at dksX3_shapeItems_0 17 rfl rfl)
theorem dX3_shapeItems_20 : decode cX3_shapeItems 20 = .ok (.iload 4, 2) := dk_21 4 (dk_at dksX3_shapeItems_0 20 rfl rfl)
theorem dX3_shapeItems_22 : decode cX3_shapeItems 22 = .ok (.iaload, 1) := dk_46 (dk_at dksX3_shapeItems_0 22 rfl rfl)
theorem dX3_shapeItems_23 : decode cX3_shapeItems 23 = .ok (.aload_n 0, 1) := dk_42 (dk_at dksX3_shapeItems_0 23 rfl rfl)
theorem dX3_shapeItems_24 : decode cX3_shapeItems 24 = .ok (.getfield 17, 3) := dk_180 0 17 (dk_at dksX3_shapeItems_1 0 rfl rfl)
theorem dX3_shapeItems_27 : decode cX3_shapeItems 27 = .ok (.iload 4, 2) := dk_21 4 (dk_at dksX3_shapeItems_1 3 rfl rfl)
theorem dX3_shapeItems_29 : decode cX3_shapeItems 29 = .ok (.iaload, 1) := dk_46 (dk_at dksX3_shapeItems_1 5 rfl rfl)
theorem dX3_shapeItems_30 : decode cX3_shapeItems 30 = .ok (.invokestatic 78, 3) := dk_184 0 78 (dk_at dksX3_shapeItems_1 6 rfl rfl)
theorem dX3_shapeItems_33 : decode cX3_shapeItems 33 = .ok (.lstore 5, 2) := dk_55 5 (dk_at dksX3_shapeItems_1 9 rfl rfl)
theorem dX3_shapeItems_35 : decode cX3_shapeItems 35 = .ok (.iload_n 1, 1) := dk_27 (dk_at dksX3_shapeItems_1 11 rfl rfl)
theorem dX3_shapeItems_36 : decode cX3_shapeItems 36 = .ok (.ifCond .ne 10, 3) := dk_154 0 10 (dk_at dksX3_shapeItems_1 12 rfl rfl)
theorem dX3_shapeItems_39 : decode cX3_shapeItems 39 = .ok (.lload 5, 2) := dk_22 5 (dk_at dksX3_shapeItems_1 15 rfl rfl)
theorem dX3_shapeItems_41 : decode cX3_shapeItems 41 = .ok (.lconst 0, 1) := dk_9 (dk_at dksX3_shapeItems_1 17 rfl rfl)
theorem dX3_shapeItems_42 : decode cX3_shapeItems 42 = .ok (.lcmp, 1) := dk_148 (dk_at dksX3_shapeItems_1 18 rfl rfl)
theorem dX3_shapeItems_43 : decode cX3_shapeItems 43 = .ok (.ifCond .ne 7, 3) := dk_154 0 7 (dk_at dksX3_shapeItems_1 19 rfl rfl)
theorem dX3_shapeItems_46 : decode cX3_shapeItems 46 = .ok (.iconst 1, 1) := dk_4 (dk_at dksX3_shapeItems_1 22 rfl rfl)
theorem dX3_shapeItems_47 : decode cX3_shapeItems 47 = .ok (.goto 4, 3) := dk_167 0 4 (dk_at dksX3_shapeItems_2 0 rfl rfl)
theorem dX3_shapeItems_50 : decode cX3_shapeItems 50 = .ok (.iconst 0, 1) := dk_3 (dk_at dksX3_shapeItems_2 3 rfl rfl)
theorem dX3_shapeItems_51 : decode cX3_shapeItems 51 = .ok (.istore_n 1, 1) := dk_60 (dk_at dksX3_shapeItems_2 4 rfl rfl)
theorem dX3_shapeItems_52 : decode cX3_shapeItems 52 = .ok (.lload_n 2, 1) := dk_32 (dk_at dksX3_shapeItems_2 5 rfl rfl)
theorem dX3_shapeItems_53 : decode cX3_shapeItems 53 = .ok (.lload 5, 2) := dk_22 5 (dk_at dksX3_shapeItems_2 6 rfl rfl)
theorem dX3_shapeItems_55 : decode cX3_shapeItems 55 = .ok (.lmul, 1) := dk_105 (dk_at dksX3_shapeItems_2 8 rfl rfl)
theorem dX3_shapeItems_56 : decode cX3_shapeItems 56 = .ok (.lstore_n 2, 1) := dk_65 (dk_at dksX3_shapeItems_2 9 rfl rfl)
theorem dX3_shapeItems_57 : decode cX3_shapeItems 57 = .ok (.lload_n 2, 1) := dk_32 (dk_at dksX3_shapeItems_2 10 rfl rfl)
theorem dX3_shapeItems_58 : decode cX3_shapeItems 58 = .ok (.ldc2_w 82, 3) := dk_20 0 82 (dk_at dksX3_shapeItems_2 11 rfl rfl)
theorem dX3_shapeItems_61 : decode cX3_shapeItems 61 = .ok (.lcmp, 1) := dk_148 (dk_at dksX3_shapeItems_2 14 rfl rfl)
theorem dX3_shapeItems_62 : decode cX3_shapeItems 62 = .ok (.ifCond .le 9, 3) := dk_158 0 9 (dk_at dksX3_shapeItems_2 15 rfl rfl)
theorem dX3_shapeItems_65 : decode cX3_shapeItems 65 = .ok (.ldc2_w 84, 3) := dk_20 0 84 (dk_at dksX3_shapeItems_2 18 rfl rfl)
theorem dX3_shapeItems_68 : decode cX3_shapeItems 68 = .ok (.goto 4, 3) := dk_167 0 4 (dk_at dksX3_shapeItems_2 21 rfl rfl)
theorem dX3_shapeItems_71 : decode cX3_shapeItems 71 = .ok (.lload_n 2, 1) := dk_32 (dk_at dksX3_shapeItems_3 0 rfl rfl)
theorem dX3_shapeItems_72 : decode cX3_shapeItems 72 = .ok (.lstore_n 2, 1) := dk_65 (dk_at dksX3_shapeItems_3 1 rfl rfl)
theorem dX3_shapeItems_73 : decode cX3_shapeItems 73 = .ok (.iinc 4 1, 3) := dk_132 4 1 (dk_at dksX3_shapeItems_3 2 rfl rfl)
theorem dX3_shapeItems_76 : decode cX3_shapeItems 76 = .ok (.goto (-69), 3) := dk_167 255 187 (dk_at dksX3_shapeItems_3 5 rfl rfl)
theorem dX3_shapeItems_79 : decode cX3_shapeItems 79 = .ok (.iload_n 1, 1) := dk_27 (dk_at dksX3_shapeItems_3 8 rfl rfl)
theorem dX3_shapeItems_80 : decode cX3_shapeItems 80 = .ok (.ifCond .eq 7, 3) := dk_153 0 7 (dk_at dksX3_shapeItems_3 9 rfl rfl)
theorem dX3_shapeItems_83 : decode cX3_shapeItems 83 = .ok (.iconst 0, 1) := dk_3 (dk_at dksX3_shapeItems_3 12 rfl rfl)
theorem dX3_shapeItems_84 : decode cX3_shapeItems 84 = .ok (.goto 5, 3) := dk_167 0 5 (dk_at dksX3_shapeItems_3 13 rfl rfl)
theorem dX3_shapeItems_87 : decode cX3_shapeItems 87 = .ok (.lload_n 2, 1) := dk_32 (dk_at dksX3_shapeItems_3 16 rfl rfl)
theorem dX3_shapeItems_88 : decode cX3_shapeItems 88 = .ok (.l2i, 1) := dk_136 (dk_at dksX3_shapeItems_3 17 rfl rfl)
theorem dX3_shapeItems_89 : decode cX3_shapeItems 89 = .ok (.ireturn, 1) := dk_172 (dk_at dksX3_shapeItems_3 18 rfl rfl)
abbrev cX3_length : ByteArray := prog_6_method_11_code
def yX3_length : MethodName := ⟨RX3, "length", "(II)J"⟩
def dkwX3_length_0 : List UInt8 := [27, 133, 26, 133, 101, 10, 97, 65, 32, 9, 148, 156, 0, 7, 9, 167, 0, 4, 32, 173]
abbrev dktX3_length_0 : List UInt8 := dkwX3_length_0 ++ []
theorem dksX3_length_0 : cX3_length.data.toList.drop 0 = dktX3_length_0 := by decide +kernel
theorem dX3_length_0 : decode cX3_length 0 = .ok (.iload_n 1, 1) := dk_27 (dk_at dksX3_length_0 0 rfl rfl)
theorem dX3_length_1 : decode cX3_length 1 = .ok (.i2l, 1) := dk_133 (dk_at dksX3_length_0 1 rfl rfl)
theorem dX3_length_2 : decode cX3_length 2 = .ok (.iload_n 0, 1) := dk_26 (dk_at dksX3_length_0 2 rfl rfl)
theorem dX3_length_3 : decode cX3_length 3 = .ok (.i2l, 1) := dk_133 (dk_at dksX3_length_0 3 rfl rfl)
theorem dX3_length_4 : decode cX3_length 4 = .ok (.lsub, 1) := dk_101 (dk_at dksX3_length_0 4 rfl rfl)
theorem dX3_length_5 : decode cX3_length 5 = .ok (.lconst 1, 1) := dk_10 (dk_at dksX3_length_0 5 rfl rfl)
theorem dX3_length_6 : decode cX3_length 6 = .ok (.ladd, 1) := dk_97 (dk_at dksX3_length_0 6 rfl rfl)
theorem dX3_length_7 : decode cX3_length 7 = .ok (.lstore_n 2, 1) := dk_65 (dk_at dksX3_length_0 7 rfl rfl)
theorem dX3_length_8 : decode cX3_length 8 = .ok (.lload_n 2, 1) := dk_32 (dk_at dksX3_length_0 8 rfl rfl)
theorem dX3_length_9 : decode cX3_length 9 = .ok (.lconst 0, 1) := dk_9 (dk_at dksX3_length_0 9 rfl rfl)
theorem dX3_length_10 : decode cX3_length 10 = .ok (.lcmp, 1) := dk_148 (dk_at dksX3_length_0 10 rfl rfl)
theorem dX3_length_11 : decode cX3_length 11 = .ok (.ifCond .ge 7, 3) := dk_156 0 7 (dk_at dksX3_length_0 11 rfl rfl)
theorem dX3_length_14 : decode cX3_length 14 = .ok (.lconst 0, 1) := dk_9 (dk_at dksX3_length_0 14 rfl rfl)
theorem dX3_length_15 : decode cX3_length 15 = .ok (.goto 4, 3) := dk_167 0 4 (dk_at dksX3_length_0 15 rfl rfl)
theorem dX3_length_18 : decode cX3_length 18 = .ok (.lload_n 2, 1) := dk_32 (dk_at dksX3_length_0 18 rfl rfl)
theorem dX3_length_19 : decode cX3_length 19 = .ok (.lreturn, 1) := dk_173 (dk_at dksX3_length_0 19 rfl rfl)
abbrev cX3_newArray : ByteArray := prog_6_method_17_code
def yX3_newArray : MethodName := ⟨RX3, "newArray", "(II)I"⟩
def dkwX3_newArray_5 : List UInt8 := [132, 3, 1, 167, 255, 174, 42, 89, 180, 0, 98, 4, 96, 181, 0, 98, 42, 180, 0, 98, 4, 100, 172]
abbrev dktX3_newArray_5 : List UInt8 := dkwX3_newArray_5 ++ []
def dkwX3_newArray_4 : List UInt8 := [160, 0, 12, 42, 180, 0, 17, 29, 46, 167, 0, 13, 42, 180, 0, 29, 6, 28, 104, 29, 96, 46, 79]
abbrev dktX3_newArray_4 : List UInt8 := dkwX3_newArray_4 ++ dktX3_newArray_5
def dkwX3_newArray_3 : List UInt8 := [180, 0, 26, 6, 28, 104, 29, 96, 46, 79, 42, 180, 0, 29, 6, 42, 180, 0, 98, 104, 29, 96, 28, 2]
abbrev dktX3_newArray_3 : List UInt8 := dkwX3_newArray_3 ++ dktX3_newArray_4
def dkwX3_newArray_2 : List UInt8 := [6, 42, 180, 0, 98, 104, 29, 96, 28, 2, 160, 0, 12, 42, 180, 0, 13, 29, 46, 167, 0, 13, 42]
abbrev dktX3_newArray_2 : List UInt8 := dkwX3_newArray_2 ++ dktX3_newArray_3
def dkwX3_newArray_1 : List UInt8 := [180, 0, 72, 167, 0, 9, 42, 180, 0, 23, 28, 46, 79, 3, 62, 29, 6, 162, 0, 83, 42, 180, 0, 26]
abbrev dktX3_newArray_1 : List UInt8 := dkwX3_newArray_1 ++ dktX3_newArray_2
def dkwX3_newArray_0 : List UInt8 := [42, 180, 0, 20, 42, 180, 0, 98, 27, 79, 42, 180, 0, 23, 42, 180, 0, 98, 28, 2, 160, 0, 10, 42]
abbrev dktX3_newArray_0 : List UInt8 := dkwX3_newArray_0 ++ dktX3_newArray_1
theorem dksX3_newArray_0 : cX3_newArray.data.toList.drop 0 = dktX3_newArray_0 := by decide +kernel
theorem dksX3_newArray_1 : cX3_newArray.data.toList.drop 24 = dktX3_newArray_1 := dk_seg dksX3_newArray_0 24 rfl rfl
theorem dksX3_newArray_2 : cX3_newArray.data.toList.drop 48 = dktX3_newArray_2 := dk_seg dksX3_newArray_1 24 rfl rfl
theorem dksX3_newArray_3 : cX3_newArray.data.toList.drop 71 = dktX3_newArray_3 := dk_seg dksX3_newArray_2 23 rfl rfl
theorem dksX3_newArray_4 : cX3_newArray.data.toList.drop 95 = dktX3_newArray_4 := dk_seg dksX3_newArray_3 24 rfl rfl
theorem dksX3_newArray_5 : cX3_newArray.data.toList.drop 118 = dktX3_newArray_5 := dk_seg dksX3_newArray_4 23 rfl rfl
theorem dX3_newArray_0 : decode cX3_newArray 0 = .ok (.aload_n 0, 1) := dk_42 (dk_at dksX3_newArray_0 0 rfl rfl)
theorem dX3_newArray_1 : decode cX3_newArray 1 = .ok (.getfield 20, 3) := dk_180 0 20 (dk_at dksX3_newArray_0 1 rfl rfl)
theorem dX3_newArray_4 : decode cX3_newArray 4 = .ok (.aload_n 0, 1) := dk_42 (dk_at dksX3_newArray_0 4 rfl rfl)
theorem dX3_newArray_5 : decode cX3_newArray 5 = .ok (.getfield 98, 3) := dk_180 0 98 (dk_at dksX3_newArray_0 5 rfl rfl)
theorem dX3_newArray_8 : decode cX3_newArray 8 = .ok (.iload_n 1, 1) := dk_27 (dk_at dksX3_newArray_0 8 rfl rfl)
theorem dX3_newArray_9 : decode cX3_newArray 9 = .ok (.iastore, 1) := dk_79 (dk_at dksX3_newArray_0 9 rfl rfl)
theorem dX3_newArray_10 : decode cX3_newArray 10 = .ok (.aload_n 0, 1) := dk_42 (dk_at dksX3_newArray_0 10 rfl rfl)
theorem dX3_newArray_11 : decode cX3_newArray 11 = .ok (.getfield 23, 3) := dk_180 0 23 (dk_at dksX3_newArray_0 11 rfl rfl)
theorem dX3_newArray_14 : decode cX3_newArray 14 = .ok (.aload_n 0, 1) := dk_42 (dk_at dksX3_newArray_0 14 rfl rfl)
theorem dX3_newArray_15 : decode cX3_newArray 15 = .ok (.getfield 98, 3) := dk_180 0 98 (dk_at dksX3_newArray_0 15 rfl rfl)
theorem dX3_newArray_18 : decode cX3_newArray 18 = .ok (.iload_n 2, 1) := dk_28 (dk_at dksX3_newArray_0 18 rfl rfl)
theorem dX3_newArray_19 : decode cX3_newArray 19 = .ok (.iconst (-1), 1) := dk_2 (dk_at dksX3_newArray_0 19 rfl rfl)
theorem dX3_newArray_20 : decode cX3_newArray 20 = .ok (.if_icmp .ne 10, 3) := dk_160 0 10 (dk_at dksX3_newArray_0 20 rfl rfl)
theorem dX3_newArray_23 : decode cX3_newArray 23 = .ok (.aload_n 0, 1) := dk_42 (dk_at dksX3_newArray_0 23 rfl rfl)
theorem dX3_newArray_24 : decode cX3_newArray 24 = .ok (.getfield 72, 3) := dk_180 0 72 (dk_at dksX3_newArray_1 0 rfl rfl)
theorem dX3_newArray_27 : decode cX3_newArray 27 = .ok (.goto 9, 3) := dk_167 0 9 (dk_at dksX3_newArray_1 3 rfl rfl)
theorem dX3_newArray_30 : decode cX3_newArray 30 = .ok (.aload_n 0, 1) := dk_42 (dk_at dksX3_newArray_1 6 rfl rfl)
theorem dX3_newArray_31 : decode cX3_newArray 31 = .ok (.getfield 23, 3) := dk_180 0 23 (dk_at dksX3_newArray_1 7 rfl rfl)
theorem dX3_newArray_34 : decode cX3_newArray 34 = .ok (.iload_n 2, 1) := dk_28 (dk_at dksX3_newArray_1 10 rfl rfl)
theorem dX3_newArray_35 : decode cX3_newArray 35 = .ok (.iaload, 1) := dk_46 (dk_at dksX3_newArray_1 11 rfl rfl)
theorem dX3_newArray_36 : decode cX3_newArray 36 = .ok (.iastore, 1) := dk_79 (dk_at dksX3_newArray_1 12 rfl rfl)
theorem dX3_newArray_37 : decode cX3_newArray 37 = .ok (.iconst 0, 1) := dk_3 (dk_at dksX3_newArray_1 13 rfl rfl)
theorem dX3_newArray_38 : decode cX3_newArray 38 = .ok (.istore_n 3, 1) := dk_62 (dk_at dksX3_newArray_1 14 rfl rfl)
theorem dX3_newArray_39 : decode cX3_newArray 39 = .ok (.iload_n 3, 1) := dk_29 (dk_at dksX3_newArray_1 15 rfl rfl)
theorem dX3_newArray_40 : decode cX3_newArray 40 = .ok (.iconst 3, 1) := dk_6 (dk_at dksX3_newArray_1 16 rfl rfl)
theorem dX3_newArray_41 : decode cX3_newArray 41 = .ok (.if_icmp .ge 83, 3) := dk_162 0 83 (dk_at dksX3_newArray_1 17 rfl rfl)
theorem dX3_newArray_44 : decode cX3_newArray 44 = .ok (.aload_n 0, 1) := dk_42 (dk_at dksX3_newArray_1 20 rfl rfl)
theorem dX3_newArray_45 : decode cX3_newArray 45 = .ok (.getfield 26, 3) := dk_180 0 26 (dk_at dksX3_newArray_1 21 rfl rfl)
theorem dX3_newArray_48 : decode cX3_newArray 48 = .ok (.iconst 3, 1) := dk_6 (dk_at dksX3_newArray_2 0 rfl rfl)
theorem dX3_newArray_49 : decode cX3_newArray 49 = .ok (.aload_n 0, 1) := dk_42 (dk_at dksX3_newArray_2 1 rfl rfl)
theorem dX3_newArray_50 : decode cX3_newArray 50 = .ok (.getfield 98, 3) := dk_180 0 98 (dk_at dksX3_newArray_2 2 rfl rfl)
theorem dX3_newArray_53 : decode cX3_newArray 53 = .ok (.imul, 1) := dk_104 (dk_at dksX3_newArray_2 5 rfl rfl)
theorem dX3_newArray_54 : decode cX3_newArray 54 = .ok (.iload_n 3, 1) := dk_29 (dk_at dksX3_newArray_2 6 rfl rfl)
theorem dX3_newArray_55 : decode cX3_newArray 55 = .ok (.iadd, 1) := dk_96 (dk_at dksX3_newArray_2 7 rfl rfl)
theorem dX3_newArray_56 : decode cX3_newArray 56 = .ok (.iload_n 2, 1) := dk_28 (dk_at dksX3_newArray_2 8 rfl rfl)
theorem dX3_newArray_57 : decode cX3_newArray 57 = .ok (.iconst (-1), 1) := dk_2 (dk_at dksX3_newArray_2 9 rfl rfl)
theorem dX3_newArray_58 : decode cX3_newArray 58 = .ok (.if_icmp .ne 12, 3) := dk_160 0 12 (dk_at dksX3_newArray_2 10 rfl rfl)
theorem dX3_newArray_61 : decode cX3_newArray 61 = .ok (.aload_n 0, 1) := dk_42 (dk_at dksX3_newArray_2 13 rfl rfl)
theorem dX3_newArray_62 : decode cX3_newArray 62 = .ok (.getfield 13, 3) := dk_180 0 13 (dk_at dksX3_newArray_2 14 rfl rfl)
theorem dX3_newArray_65 : decode cX3_newArray 65 = .ok (.iload_n 3, 1) := dk_29 (dk_at dksX3_newArray_2 17 rfl rfl)
theorem dX3_newArray_66 : decode cX3_newArray 66 = .ok (.iaload, 1) := dk_46 (dk_at dksX3_newArray_2 18 rfl rfl)
theorem dX3_newArray_67 : decode cX3_newArray 67 = .ok (.goto 13, 3) := dk_167 0 13 (dk_at dksX3_newArray_2 19 rfl rfl)
theorem dX3_newArray_70 : decode cX3_newArray 70 = .ok (.aload_n 0, 1) := dk_42 (dk_at dksX3_newArray_2 22 rfl rfl)
theorem dX3_newArray_71 : decode cX3_newArray 71 = .ok (.getfield 26, 3) := dk_180 0 26 (dk_at dksX3_newArray_3 0 rfl rfl)
theorem dX3_newArray_74 : decode cX3_newArray 74 = .ok (.iconst 3, 1) := dk_6 (dk_at dksX3_newArray_3 3 rfl rfl)
theorem dX3_newArray_75 : decode cX3_newArray 75 = .ok (.iload_n 2, 1) := dk_28 (dk_at dksX3_newArray_3 4 rfl rfl)
theorem dX3_newArray_76 : decode cX3_newArray 76 = .ok (.imul, 1) := dk_104 (dk_at dksX3_newArray_3 5 rfl rfl)
theorem dX3_newArray_77 : decode cX3_newArray 77 = .ok (.iload_n 3, 1) := dk_29 (dk_at dksX3_newArray_3 6 rfl rfl)
theorem dX3_newArray_78 : decode cX3_newArray 78 = .ok (.iadd, 1) := dk_96 (dk_at dksX3_newArray_3 7 rfl rfl)
theorem dX3_newArray_79 : decode cX3_newArray 79 = .ok (.iaload, 1) := dk_46 (dk_at dksX3_newArray_3 8 rfl rfl)
theorem dX3_newArray_80 : decode cX3_newArray 80 = .ok (.iastore, 1) := dk_79 (dk_at dksX3_newArray_3 9 rfl rfl)
theorem dX3_newArray_81 : decode cX3_newArray 81 = .ok (.aload_n 0, 1) := dk_42 (dk_at dksX3_newArray_3 10 rfl rfl)
theorem dX3_newArray_82 : decode cX3_newArray 82 = .ok (.getfield 29, 3) := dk_180 0 29 (dk_at dksX3_newArray_3 11 rfl rfl)
theorem dX3_newArray_85 : decode cX3_newArray 85 = .ok (.iconst 3, 1) := dk_6 (dk_at dksX3_newArray_3 14 rfl rfl)
theorem dX3_newArray_86 : decode cX3_newArray 86 = .ok (.aload_n 0, 1) := dk_42 (dk_at dksX3_newArray_3 15 rfl rfl)
theorem dX3_newArray_87 : decode cX3_newArray 87 = .ok (.getfield 98, 3) := dk_180 0 98 (dk_at dksX3_newArray_3 16 rfl rfl)
theorem dX3_newArray_90 : decode cX3_newArray 90 = .ok (.imul, 1) := dk_104 (dk_at dksX3_newArray_3 19 rfl rfl)
theorem dX3_newArray_91 : decode cX3_newArray 91 = .ok (.iload_n 3, 1) := dk_29 (dk_at dksX3_newArray_3 20 rfl rfl)
theorem dX3_newArray_92 : decode cX3_newArray 92 = .ok (.iadd, 1) := dk_96 (dk_at dksX3_newArray_3 21 rfl rfl)
theorem dX3_newArray_93 : decode cX3_newArray 93 = .ok (.iload_n 2, 1) := dk_28 (dk_at dksX3_newArray_3 22 rfl rfl)
theorem dX3_newArray_94 : decode cX3_newArray 94 = .ok (.iconst (-1), 1) := dk_2 (dk_at dksX3_newArray_3 23 rfl rfl)
theorem dX3_newArray_95 : decode cX3_newArray 95 = .ok (.if_icmp .ne 12, 3) := dk_160 0 12 (dk_at dksX3_newArray_4 0 rfl rfl)
theorem dX3_newArray_98 : decode cX3_newArray 98 = .ok (.aload_n 0, 1) := dk_42 (dk_at dksX3_newArray_4 3 rfl rfl)
theorem dX3_newArray_99 : decode cX3_newArray 99 = .ok (.getfield 17, 3) := dk_180 0 17 (dk_at dksX3_newArray_4 4 rfl rfl)
theorem dX3_newArray_102 : decode cX3_newArray 102 = .ok (.iload_n 3, 1) := dk_29 (dk_at dksX3_newArray_4 7 rfl rfl)
theorem dX3_newArray_103 : decode cX3_newArray 103 = .ok (.iaload, 1) := dk_46 (dk_at dksX3_newArray_4 8 rfl rfl)
theorem dX3_newArray_104 : decode cX3_newArray 104 = .ok (.goto 13, 3) := dk_167 0 13 (dk_at dksX3_newArray_4 9 rfl rfl)
theorem dX3_newArray_107 : decode cX3_newArray 107 = .ok (.aload_n 0, 1) := dk_42 (dk_at dksX3_newArray_4 12 rfl rfl)
theorem dX3_newArray_108 : decode cX3_newArray 108 = .ok (.getfield 29, 3) := dk_180 0 29 (dk_at dksX3_newArray_4 13 rfl rfl)
theorem dX3_newArray_111 : decode cX3_newArray 111 = .ok (.iconst 3, 1) := dk_6 (dk_at dksX3_newArray_4 16 rfl rfl)
theorem dX3_newArray_112 : decode cX3_newArray 112 = .ok (.iload_n 2, 1) := dk_28 (dk_at dksX3_newArray_4 17 rfl rfl)
theorem dX3_newArray_113 : decode cX3_newArray 113 = .ok (.imul, 1) := dk_104 (dk_at dksX3_newArray_4 18 rfl rfl)
theorem dX3_newArray_114 : decode cX3_newArray 114 = .ok (.iload_n 3, 1) := dk_29 (dk_at dksX3_newArray_4 19 rfl rfl)
theorem dX3_newArray_115 : decode cX3_newArray 115 = .ok (.iadd, 1) := dk_96 (dk_at dksX3_newArray_4 20 rfl rfl)
theorem dX3_newArray_116 : decode cX3_newArray 116 = .ok (.iaload, 1) := dk_46 (dk_at dksX3_newArray_4 21 rfl rfl)
theorem dX3_newArray_117 : decode cX3_newArray 117 = .ok (.iastore, 1) := dk_79 (dk_at dksX3_newArray_4 22 rfl rfl)
theorem dX3_newArray_118 : decode cX3_newArray 118 = .ok (.iinc 3 1, 3) := dk_132 3 1 (dk_at dksX3_newArray_5 0 rfl rfl)
theorem dX3_newArray_121 : decode cX3_newArray 121 = .ok (.goto (-82), 3) := dk_167 255 174 (dk_at dksX3_newArray_5 3 rfl rfl)
theorem dX3_newArray_124 : decode cX3_newArray 124 = .ok (.aload_n 0, 1) := dk_42 (dk_at dksX3_newArray_5 6 rfl rfl)
theorem dX3_newArray_125 : decode cX3_newArray 125 = .ok (.dup, 1) := dk_89 (dk_at dksX3_newArray_5 7 rfl rfl)
theorem dX3_newArray_126 : decode cX3_newArray 126 = .ok (.getfield 98, 3) := dk_180 0 98 (dk_at dksX3_newArray_5 8 rfl rfl)
theorem dX3_newArray_129 : decode cX3_newArray 129 = .ok (.iconst 1, 1) := dk_4 (dk_at dksX3_newArray_5 11 rfl rfl)
theorem dX3_newArray_130 : decode cX3_newArray 130 = .ok (.iadd, 1) := dk_96 (dk_at dksX3_newArray_5 12 rfl rfl)
theorem dX3_newArray_131 : decode cX3_newArray 131 = .ok (.putfield 98, 3) := dk_181 0 98 (dk_at dksX3_newArray_5 13 rfl rfl)
theorem dX3_newArray_134 : decode cX3_newArray 134 = .ok (.aload_n 0, 1) := dk_42 (dk_at dksX3_newArray_5 16 rfl rfl)
theorem dX3_newArray_135 : decode cX3_newArray 135 = .ok (.getfield 98, 3) := dk_180 0 98 (dk_at dksX3_newArray_5 17 rfl rfl)
theorem dX3_newArray_138 : decode cX3_newArray 138 = .ok (.iconst 1, 1) := dk_4 (dk_at dksX3_newArray_5 20 rfl rfl)
theorem dX3_newArray_139 : decode cX3_newArray 139 = .ok (.isub, 1) := dk_100 (dk_at dksX3_newArray_5 21 rfl rfl)
theorem dX3_newArray_140 : decode cX3_newArray 140 = .ok (.ireturn, 1) := dk_172 (dk_at dksX3_newArray_5 22 rfl rfl)
abbrev cX3_newTable : ByteArray := prog_6_method_18_code
def yX3_newTable : MethodName := ⟨RX3, "newTable", "(I)V"⟩
def dkwX3_newTable_3 : List UInt8 := [167, 255, 223, 177]
abbrev dktX3_newTable_3 : List UInt8 := dkwX3_newTable_3 ++ []
def dkwX3_newTable_2 : List UInt8 := [42, 180, 0, 105, 42, 29, 182, 0, 111, 79, 42, 89, 180, 0, 105, 4, 96, 181, 0, 105, 132, 4, 1]
abbrev dktX3_newTable_2 : List UInt8 := dkwX3_newTable_2 ++ dktX3_newTable_3
def dkwX3_newTable_1 : List UInt8 := [167, 0, 9, 42, 27, 4, 182, 0, 108, 136, 62, 3, 54, 4, 21, 4, 28, 162, 0, 33, 42, 180, 0, 50]
abbrev dktX3_newTable_1 : List UInt8 := dkwX3_newTable_1 ++ dktX3_newTable_2
def dkwX3_newTable_0 : List UInt8 := [42, 180, 0, 32, 27, 42, 180, 0, 105, 79, 42, 27, 3, 182, 0, 108, 136, 61, 28, 154, 0, 7, 9]
abbrev dktX3_newTable_0 : List UInt8 := dkwX3_newTable_0 ++ dktX3_newTable_1
theorem dksX3_newTable_0 : cX3_newTable.data.toList.drop 0 = dktX3_newTable_0 := by decide +kernel
theorem dksX3_newTable_1 : cX3_newTable.data.toList.drop 23 = dktX3_newTable_1 := dk_seg dksX3_newTable_0 23 rfl rfl
theorem dksX3_newTable_2 : cX3_newTable.data.toList.drop 47 = dktX3_newTable_2 := dk_seg dksX3_newTable_1 24 rfl rfl
theorem dksX3_newTable_3 : cX3_newTable.data.toList.drop 70 = dktX3_newTable_3 := dk_seg dksX3_newTable_2 23 rfl rfl
theorem dX3_newTable_0 : decode cX3_newTable 0 = .ok (.aload_n 0, 1) := dk_42 (dk_at dksX3_newTable_0 0 rfl rfl)
theorem dX3_newTable_1 : decode cX3_newTable 1 = .ok (.getfield 32, 3) := dk_180 0 32 (dk_at dksX3_newTable_0 1 rfl rfl)
theorem dX3_newTable_4 : decode cX3_newTable 4 = .ok (.iload_n 1, 1) := dk_27 (dk_at dksX3_newTable_0 4 rfl rfl)
theorem dX3_newTable_5 : decode cX3_newTable 5 = .ok (.aload_n 0, 1) := dk_42 (dk_at dksX3_newTable_0 5 rfl rfl)
theorem dX3_newTable_6 : decode cX3_newTable 6 = .ok (.getfield 105, 3) := dk_180 0 105 (dk_at dksX3_newTable_0 6 rfl rfl)
theorem dX3_newTable_9 : decode cX3_newTable 9 = .ok (.iastore, 1) := dk_79 (dk_at dksX3_newTable_0 9 rfl rfl)
theorem dX3_newTable_10 : decode cX3_newTable 10 = .ok (.aload_n 0, 1) := dk_42 (dk_at dksX3_newTable_0 10 rfl rfl)
theorem dX3_newTable_11 : decode cX3_newTable 11 = .ok (.iload_n 1, 1) := dk_27 (dk_at dksX3_newTable_0 11 rfl rfl)
theorem dX3_newTable_12 : decode cX3_newTable 12 = .ok (.iconst 0, 1) := dk_3 (dk_at dksX3_newTable_0 12 rfl rfl)
theorem dX3_newTable_13 : decode cX3_newTable 13 = .ok (.invokevirtual 108, 3) := dk_182 0 108 (dk_at dksX3_newTable_0 13 rfl rfl)
theorem dX3_newTable_16 : decode cX3_newTable 16 = .ok (.l2i, 1) := dk_136 (dk_at dksX3_newTable_0 16 rfl rfl)
theorem dX3_newTable_17 : decode cX3_newTable 17 = .ok (.istore_n 2, 1) := dk_61 (dk_at dksX3_newTable_0 17 rfl rfl)
theorem dX3_newTable_18 : decode cX3_newTable 18 = .ok (.iload_n 2, 1) := dk_28 (dk_at dksX3_newTable_0 18 rfl rfl)
theorem dX3_newTable_19 : decode cX3_newTable 19 = .ok (.ifCond .ne 7, 3) := dk_154 0 7 (dk_at dksX3_newTable_0 19 rfl rfl)
theorem dX3_newTable_22 : decode cX3_newTable 22 = .ok (.lconst 0, 1) := dk_9 (dk_at dksX3_newTable_0 22 rfl rfl)
theorem dX3_newTable_23 : decode cX3_newTable 23 = .ok (.goto 9, 3) := dk_167 0 9 (dk_at dksX3_newTable_1 0 rfl rfl)
theorem dX3_newTable_26 : decode cX3_newTable 26 = .ok (.aload_n 0, 1) := dk_42 (dk_at dksX3_newTable_1 3 rfl rfl)
theorem dX3_newTable_27 : decode cX3_newTable 27 = .ok (.iload_n 1, 1) := dk_27 (dk_at dksX3_newTable_1 4 rfl rfl)
theorem dX3_newTable_28 : decode cX3_newTable 28 = .ok (.iconst 1, 1) := dk_4 (dk_at dksX3_newTable_1 5 rfl rfl)
theorem dX3_newTable_29 : decode cX3_newTable 29 = .ok (.invokevirtual 108, 3) := dk_182 0 108 (dk_at dksX3_newTable_1 6 rfl rfl)
theorem dX3_newTable_32 : decode cX3_newTable 32 = .ok (.l2i, 1) := dk_136 (dk_at dksX3_newTable_1 9 rfl rfl)
theorem dX3_newTable_33 : decode cX3_newTable 33 = .ok (.istore_n 3, 1) := dk_62 (dk_at dksX3_newTable_1 10 rfl rfl)
theorem dX3_newTable_34 : decode cX3_newTable 34 = .ok (.iconst 0, 1) := dk_3 (dk_at dksX3_newTable_1 11 rfl rfl)
theorem dX3_newTable_35 : decode cX3_newTable 35 = .ok (.istore 4, 2) := dk_54 4 (dk_at dksX3_newTable_1 12 rfl rfl)
theorem dX3_newTable_37 : decode cX3_newTable 37 = .ok (.iload 4, 2) := dk_21 4 (dk_at dksX3_newTable_1 14 rfl rfl)
theorem dX3_newTable_39 : decode cX3_newTable 39 = .ok (.iload_n 2, 1) := dk_28 (dk_at dksX3_newTable_1 16 rfl rfl)
theorem dX3_newTable_40 : decode cX3_newTable 40 = .ok (.if_icmp .ge 33, 3) := dk_162 0 33 (dk_at dksX3_newTable_1 17 rfl rfl)
theorem dX3_newTable_43 : decode cX3_newTable 43 = .ok (.aload_n 0, 1) := dk_42 (dk_at dksX3_newTable_1 20 rfl rfl)
theorem dX3_newTable_44 : decode cX3_newTable 44 = .ok (.getfield 50, 3) := dk_180 0 50 (dk_at dksX3_newTable_1 21 rfl rfl)
theorem dX3_newTable_47 : decode cX3_newTable 47 = .ok (.aload_n 0, 1) := dk_42 (dk_at dksX3_newTable_2 0 rfl rfl)
theorem dX3_newTable_48 : decode cX3_newTable 48 = .ok (.getfield 105, 3) := dk_180 0 105 (dk_at dksX3_newTable_2 1 rfl rfl)
theorem dX3_newTable_51 : decode cX3_newTable 51 = .ok (.aload_n 0, 1) := dk_42 (dk_at dksX3_newTable_2 4 rfl rfl)
theorem dX3_newTable_52 : decode cX3_newTable 52 = .ok (.iload_n 3, 1) := dk_29 (dk_at dksX3_newTable_2 5 rfl rfl)
theorem dX3_newTable_53 : decode cX3_newTable 53 = .ok (.invokevirtual 111, 3) := dk_182 0 111 (dk_at dksX3_newTable_2 6 rfl rfl)
theorem dX3_newTable_56 : decode cX3_newTable 56 = .ok (.iastore, 1) := dk_79 (dk_at dksX3_newTable_2 9 rfl rfl)
theorem dX3_newTable_57 : decode cX3_newTable 57 = .ok (.aload_n 0, 1) := dk_42 (dk_at dksX3_newTable_2 10 rfl rfl)
theorem dX3_newTable_58 : decode cX3_newTable 58 = .ok (.dup, 1) := dk_89 (dk_at dksX3_newTable_2 11 rfl rfl)
theorem dX3_newTable_59 : decode cX3_newTable 59 = .ok (.getfield 105, 3) := dk_180 0 105 (dk_at dksX3_newTable_2 12 rfl rfl)
theorem dX3_newTable_62 : decode cX3_newTable 62 = .ok (.iconst 1, 1) := dk_4 (dk_at dksX3_newTable_2 15 rfl rfl)
theorem dX3_newTable_63 : decode cX3_newTable 63 = .ok (.iadd, 1) := dk_96 (dk_at dksX3_newTable_2 16 rfl rfl)
theorem dX3_newTable_64 : decode cX3_newTable 64 = .ok (.putfield 105, 3) := dk_181 0 105 (dk_at dksX3_newTable_2 17 rfl rfl)
theorem dX3_newTable_67 : decode cX3_newTable 67 = .ok (.iinc 4 1, 3) := dk_132 4 1 (dk_at dksX3_newTable_2 20 rfl rfl)
theorem dX3_newTable_70 : decode cX3_newTable 70 = .ok (.goto (-33), 3) := dk_167 255 223 (dk_at dksX3_newTable_3 0 rfl rfl)
theorem dX3_newTable_73 : decode cX3_newTable 73 = .ok (.return_, 1) := dk_177 (dk_at dksX3_newTable_3 3 rfl rfl)
abbrev cX3_lengthOf : ByteArray := prog_6_method_13_code
def yX3_lengthOf : MethodName := ⟨RX3, "lengthOf", "(II)J"⟩
def dkwX3_lengthOf_0 : List UInt8 := [42, 180, 0, 26, 6, 27, 104, 28, 96, 46, 42, 180, 0, 29, 6, 27, 104, 28, 96, 46, 184, 0, 78, 173]
abbrev dktX3_lengthOf_0 : List UInt8 := dkwX3_lengthOf_0 ++ []
theorem dksX3_lengthOf_0 : cX3_lengthOf.data.toList.drop 0 = dktX3_lengthOf_0 := by decide +kernel
theorem dX3_lengthOf_0 : decode cX3_lengthOf 0 = .ok (.aload_n 0, 1) := dk_42 (dk_at dksX3_lengthOf_0 0 rfl rfl)
theorem dX3_lengthOf_1 : decode cX3_lengthOf 1 = .ok (.getfield 26, 3) := dk_180 0 26 (dk_at dksX3_lengthOf_0 1 rfl rfl)
theorem dX3_lengthOf_4 : decode cX3_lengthOf 4 = .ok (.iconst 3, 1) := dk_6 (dk_at dksX3_lengthOf_0 4 rfl rfl)
theorem dX3_lengthOf_5 : decode cX3_lengthOf 5 = .ok (.iload_n 1, 1) := dk_27 (dk_at dksX3_lengthOf_0 5 rfl rfl)
theorem dX3_lengthOf_6 : decode cX3_lengthOf 6 = .ok (.imul, 1) := dk_104 (dk_at dksX3_lengthOf_0 6 rfl rfl)
theorem dX3_lengthOf_7 : decode cX3_lengthOf 7 = .ok (.iload_n 2, 1) := dk_28 (dk_at dksX3_lengthOf_0 7 rfl rfl)
theorem dX3_lengthOf_8 : decode cX3_lengthOf 8 = .ok (.iadd, 1) := dk_96 (dk_at dksX3_lengthOf_0 8 rfl rfl)
theorem dX3_lengthOf_9 : decode cX3_lengthOf 9 = .ok (.iaload, 1) := dk_46 (dk_at dksX3_lengthOf_0 9 rfl rfl)
theorem dX3_lengthOf_10 : decode cX3_lengthOf 10 = .ok (.aload_n 0, 1) := dk_42 (dk_at dksX3_lengthOf_0 10 rfl rfl)
theorem dX3_lengthOf_11 : decode cX3_lengthOf 11 = .ok (.getfield 29, 3) := dk_180 0 29 (dk_at dksX3_lengthOf_0 11 rfl rfl)
theorem dX3_lengthOf_14 : decode cX3_lengthOf 14 = .ok (.iconst 3, 1) := dk_6 (dk_at dksX3_lengthOf_0 14 rfl rfl)
theorem dX3_lengthOf_15 : decode cX3_lengthOf 15 = .ok (.iload_n 1, 1) := dk_27 (dk_at dksX3_lengthOf_0 15 rfl rfl)
theorem dX3_lengthOf_16 : decode cX3_lengthOf 16 = .ok (.imul, 1) := dk_104 (dk_at dksX3_lengthOf_0 16 rfl rfl)
theorem dX3_lengthOf_17 : decode cX3_lengthOf 17 = .ok (.iload_n 2, 1) := dk_28 (dk_at dksX3_lengthOf_0 17 rfl rfl)
theorem dX3_lengthOf_18 : decode cX3_lengthOf 18 = .ok (.iadd, 1) := dk_96 (dk_at dksX3_lengthOf_0 18 rfl rfl)
theorem dX3_lengthOf_19 : decode cX3_lengthOf 19 = .ok (.iaload, 1) := dk_46 (dk_at dksX3_lengthOf_0 19 rfl rfl)
theorem dX3_lengthOf_20 : decode cX3_lengthOf 20 = .ok (.invokestatic 78, 3) := dk_184 0 78 (dk_at dksX3_lengthOf_0 20 rfl rfl)
theorem dX3_lengthOf_23 : decode cX3_lengthOf 23 = .ok (.lreturn, 1) := dk_173 (dk_at dksX3_lengthOf_0 23 rfl rfl)
abbrev cX3_newRow : ByteArray := prog_6_method_14_code
def yX3_newRow : MethodName := ⟨RX3, "newRow", "(I)I"⟩
def dkwX3_newRow_3 : List UInt8 := [89, 180, 0, 86, 4, 96, 181, 0, 86, 42, 180, 0, 86, 4, 100, 172]
abbrev dktX3_newRow_3 : List UInt8 := dkwX3_newRow_3 ++ []
def dkwX3_newRow_2 : List UInt8 := [180, 0, 89, 28, 96, 3, 84, 132, 2, 1, 167, 255, 224, 42, 89, 180, 0, 89, 27, 96, 181, 0, 89, 42]
abbrev dktX3_newRow_2 : List UInt8 := dkwX3_newRow_2 ++ dktX3_newRow_3
def dkwX3_newRow_1 : List UInt8 := [61, 28, 27, 162, 0, 33, 42, 180, 0, 42, 42, 180, 0, 89, 28, 96, 9, 80, 42, 180, 0, 46, 42]
abbrev dktX3_newRow_1 : List UInt8 := dkwX3_newRow_1 ++ dktX3_newRow_2
def dkwX3_newRow_0 : List UInt8 := [42, 180, 0, 35, 42, 180, 0, 86, 42, 180, 0, 89, 79, 42, 180, 0, 38, 42, 180, 0, 86, 27, 79, 3]
abbrev dktX3_newRow_0 : List UInt8 := dkwX3_newRow_0 ++ dktX3_newRow_1
theorem dksX3_newRow_0 : cX3_newRow.data.toList.drop 0 = dktX3_newRow_0 := by decide +kernel
theorem dksX3_newRow_1 : cX3_newRow.data.toList.drop 24 = dktX3_newRow_1 := dk_seg dksX3_newRow_0 24 rfl rfl
theorem dksX3_newRow_2 : cX3_newRow.data.toList.drop 47 = dktX3_newRow_2 := dk_seg dksX3_newRow_1 23 rfl rfl
theorem dksX3_newRow_3 : cX3_newRow.data.toList.drop 71 = dktX3_newRow_3 := dk_seg dksX3_newRow_2 24 rfl rfl
theorem dX3_newRow_0 : decode cX3_newRow 0 = .ok (.aload_n 0, 1) := dk_42 (dk_at dksX3_newRow_0 0 rfl rfl)
theorem dX3_newRow_1 : decode cX3_newRow 1 = .ok (.getfield 35, 3) := dk_180 0 35 (dk_at dksX3_newRow_0 1 rfl rfl)
theorem dX3_newRow_4 : decode cX3_newRow 4 = .ok (.aload_n 0, 1) := dk_42 (dk_at dksX3_newRow_0 4 rfl rfl)
theorem dX3_newRow_5 : decode cX3_newRow 5 = .ok (.getfield 86, 3) := dk_180 0 86 (dk_at dksX3_newRow_0 5 rfl rfl)
theorem dX3_newRow_8 : decode cX3_newRow 8 = .ok (.aload_n 0, 1) := dk_42 (dk_at dksX3_newRow_0 8 rfl rfl)
theorem dX3_newRow_9 : decode cX3_newRow 9 = .ok (.getfield 89, 3) := dk_180 0 89 (dk_at dksX3_newRow_0 9 rfl rfl)
theorem dX3_newRow_12 : decode cX3_newRow 12 = .ok (.iastore, 1) := dk_79 (dk_at dksX3_newRow_0 12 rfl rfl)
theorem dX3_newRow_13 : decode cX3_newRow 13 = .ok (.aload_n 0, 1) := dk_42 (dk_at dksX3_newRow_0 13 rfl rfl)
theorem dX3_newRow_14 : decode cX3_newRow 14 = .ok (.getfield 38, 3) := dk_180 0 38 (dk_at dksX3_newRow_0 14 rfl rfl)
theorem dX3_newRow_17 : decode cX3_newRow 17 = .ok (.aload_n 0, 1) := dk_42 (dk_at dksX3_newRow_0 17 rfl rfl)
theorem dX3_newRow_18 : decode cX3_newRow 18 = .ok (.getfield 86, 3) := dk_180 0 86 (dk_at dksX3_newRow_0 18 rfl rfl)
theorem dX3_newRow_21 : decode cX3_newRow 21 = .ok (.iload_n 1, 1) := dk_27 (dk_at dksX3_newRow_0 21 rfl rfl)
theorem dX3_newRow_22 : decode cX3_newRow 22 = .ok (.iastore, 1) := dk_79 (dk_at dksX3_newRow_0 22 rfl rfl)
theorem dX3_newRow_23 : decode cX3_newRow 23 = .ok (.iconst 0, 1) := dk_3 (dk_at dksX3_newRow_0 23 rfl rfl)
theorem dX3_newRow_24 : decode cX3_newRow 24 = .ok (.istore_n 2, 1) := dk_61 (dk_at dksX3_newRow_1 0 rfl rfl)
theorem dX3_newRow_25 : decode cX3_newRow 25 = .ok (.iload_n 2, 1) := dk_28 (dk_at dksX3_newRow_1 1 rfl rfl)
theorem dX3_newRow_26 : decode cX3_newRow 26 = .ok (.iload_n 1, 1) := dk_27 (dk_at dksX3_newRow_1 2 rfl rfl)
theorem dX3_newRow_27 : decode cX3_newRow 27 = .ok (.if_icmp .ge 33, 3) := dk_162 0 33 (dk_at dksX3_newRow_1 3 rfl rfl)
theorem dX3_newRow_30 : decode cX3_newRow 30 = .ok (.aload_n 0, 1) := dk_42 (dk_at dksX3_newRow_1 6 rfl rfl)
theorem dX3_newRow_31 : decode cX3_newRow 31 = .ok (.getfield 42, 3) := dk_180 0 42 (dk_at dksX3_newRow_1 7 rfl rfl)
theorem dX3_newRow_34 : decode cX3_newRow 34 = .ok (.aload_n 0, 1) := dk_42 (dk_at dksX3_newRow_1 10 rfl rfl)
theorem dX3_newRow_35 : decode cX3_newRow 35 = .ok (.getfield 89, 3) := dk_180 0 89 (dk_at dksX3_newRow_1 11 rfl rfl)
theorem dX3_newRow_38 : decode cX3_newRow 38 = .ok (.iload_n 2, 1) := dk_28 (dk_at dksX3_newRow_1 14 rfl rfl)
theorem dX3_newRow_39 : decode cX3_newRow 39 = .ok (.iadd, 1) := dk_96 (dk_at dksX3_newRow_1 15 rfl rfl)
theorem dX3_newRow_40 : decode cX3_newRow 40 = .ok (.lconst 0, 1) := dk_9 (dk_at dksX3_newRow_1 16 rfl rfl)
theorem dX3_newRow_41 : decode cX3_newRow 41 = .ok (.lastore, 1) := dk_80 (dk_at dksX3_newRow_1 17 rfl rfl)
theorem dX3_newRow_42 : decode cX3_newRow 42 = .ok (.aload_n 0, 1) := dk_42 (dk_at dksX3_newRow_1 18 rfl rfl)
theorem dX3_newRow_43 : decode cX3_newRow 43 = .ok (.getfield 46, 3) := dk_180 0 46 (dk_at dksX3_newRow_1 19 rfl rfl)
theorem dX3_newRow_46 : decode cX3_newRow 46 = .ok (.aload_n 0, 1) := dk_42 (dk_at dksX3_newRow_1 22 rfl rfl)
theorem dX3_newRow_47 : decode cX3_newRow 47 = .ok (.getfield 89, 3) := dk_180 0 89 (dk_at dksX3_newRow_2 0 rfl rfl)
theorem dX3_newRow_50 : decode cX3_newRow 50 = .ok (.iload_n 2, 1) := dk_28 (dk_at dksX3_newRow_2 3 rfl rfl)
theorem dX3_newRow_51 : decode cX3_newRow 51 = .ok (.iadd, 1) := dk_96 (dk_at dksX3_newRow_2 4 rfl rfl)
theorem dX3_newRow_52 : decode cX3_newRow 52 = .ok (.iconst 0, 1) := dk_3 (dk_at dksX3_newRow_2 5 rfl rfl)
theorem dX3_newRow_53 : decode cX3_newRow 53 = .ok (.bastore, 1) := dk_84 (dk_at dksX3_newRow_2 6 rfl rfl)
theorem dX3_newRow_54 : decode cX3_newRow 54 = .ok (.iinc 2 1, 3) := dk_132 2 1 (dk_at dksX3_newRow_2 7 rfl rfl)
theorem dX3_newRow_57 : decode cX3_newRow 57 = .ok (.goto (-32), 3) := dk_167 255 224 (dk_at dksX3_newRow_2 10 rfl rfl)
theorem dX3_newRow_60 : decode cX3_newRow 60 = .ok (.aload_n 0, 1) := dk_42 (dk_at dksX3_newRow_2 13 rfl rfl)
theorem dX3_newRow_61 : decode cX3_newRow 61 = .ok (.dup, 1) := dk_89 (dk_at dksX3_newRow_2 14 rfl rfl)
theorem dX3_newRow_62 : decode cX3_newRow 62 = .ok (.getfield 89, 3) := dk_180 0 89 (dk_at dksX3_newRow_2 15 rfl rfl)
theorem dX3_newRow_65 : decode cX3_newRow 65 = .ok (.iload_n 1, 1) := dk_27 (dk_at dksX3_newRow_2 18 rfl rfl)
theorem dX3_newRow_66 : decode cX3_newRow 66 = .ok (.iadd, 1) := dk_96 (dk_at dksX3_newRow_2 19 rfl rfl)
theorem dX3_newRow_67 : decode cX3_newRow 67 = .ok (.putfield 89, 3) := dk_181 0 89 (dk_at dksX3_newRow_2 20 rfl rfl)
theorem dX3_newRow_70 : decode cX3_newRow 70 = .ok (.aload_n 0, 1) := dk_42 (dk_at dksX3_newRow_2 23 rfl rfl)
theorem dX3_newRow_71 : decode cX3_newRow 71 = .ok (.dup, 1) := dk_89 (dk_at dksX3_newRow_3 0 rfl rfl)
theorem dX3_newRow_72 : decode cX3_newRow 72 = .ok (.getfield 86, 3) := dk_180 0 86 (dk_at dksX3_newRow_3 1 rfl rfl)
theorem dX3_newRow_75 : decode cX3_newRow 75 = .ok (.iconst 1, 1) := dk_4 (dk_at dksX3_newRow_3 4 rfl rfl)
theorem dX3_newRow_76 : decode cX3_newRow 76 = .ok (.iadd, 1) := dk_96 (dk_at dksX3_newRow_3 5 rfl rfl)
theorem dX3_newRow_77 : decode cX3_newRow 77 = .ok (.putfield 86, 3) := dk_181 0 86 (dk_at dksX3_newRow_3 6 rfl rfl)
theorem dX3_newRow_80 : decode cX3_newRow 80 = .ok (.aload_n 0, 1) := dk_42 (dk_at dksX3_newRow_3 9 rfl rfl)
theorem dX3_newRow_81 : decode cX3_newRow 81 = .ok (.getfield 86, 3) := dk_180 0 86 (dk_at dksX3_newRow_3 10 rfl rfl)
theorem dX3_newRow_84 : decode cX3_newRow 84 = .ok (.iconst 1, 1) := dk_4 (dk_at dksX3_newRow_3 13 rfl rfl)
theorem dX3_newRow_85 : decode cX3_newRow 85 = .ok (.isub, 1) := dk_100 (dk_at dksX3_newRow_3 14 rfl rfl)
theorem dX3_newRow_86 : decode cX3_newRow 86 = .ok (.ireturn, 1) := dk_172 (dk_at dksX3_newRow_3 15 rfl rfl)
abbrev cX3_raw : ByteArray := prog_6_method_20_code
def yX3_raw : MethodName := ⟨RX3, "raw", "(II)I"⟩
def dkwX3_raw_5 : List UInt8 := [96, 181, 0, 98, 42, 42, 180, 0, 98, 4, 100, 182, 0, 75, 172]
abbrev dktX3_raw_5 : List UInt8 := dkwX3_raw_5 ++ []
def dkwX3_raw_4 : List UInt8 := [28, 4, 100, 79, 42, 180, 0, 32, 42, 180, 0, 98, 42, 28, 182, 0, 111, 79, 42, 89, 180, 0, 98, 4]
abbrev dktX3_raw_4 : List UInt8 := dkwX3_raw_4 ++ dktX3_raw_5
def dkwX3_raw_3 : List UInt8 := [4, 79, 42, 180, 0, 26, 6, 42, 180, 0, 98, 104, 3, 79, 42, 180, 0, 29, 6, 42, 180, 0, 98, 104]
abbrev dktX3_raw_3 : List UInt8 := dkwX3_raw_3 ++ dktX3_raw_4
def dkwX3_raw_2 : List UInt8 := [16, 8, 182, 0, 68, 172, 42, 180, 0, 20, 42, 180, 0, 98, 27, 79, 42, 180, 0, 23, 42, 180, 0, 98]
abbrev dktX3_raw_2 : List UInt8 := dkwX3_raw_2 ++ dktX3_raw_3
def dkwX3_raw_1 : List UInt8 := [172, 28, 17, 1, 244, 164, 0, 9, 42, 8, 182, 0, 68, 172, 42, 180, 0, 98, 16, 24, 160, 0, 10, 42]
abbrev dktX3_raw_1 : List UInt8 := dkwX3_raw_1 ++ dktX3_raw_2
def dkwX3_raw_0 : List UInt8 := [27, 133, 9, 20, 0, 129, 184, 0, 101, 154, 0, 6, 18, 116, 172, 28, 156, 0, 9, 42, 7, 182, 0, 68]
abbrev dktX3_raw_0 : List UInt8 := dkwX3_raw_0 ++ dktX3_raw_1
theorem dksX3_raw_0 : cX3_raw.data.toList.drop 0 = dktX3_raw_0 := by decide +kernel
theorem dksX3_raw_1 : cX3_raw.data.toList.drop 24 = dktX3_raw_1 := dk_seg dksX3_raw_0 24 rfl rfl
theorem dksX3_raw_2 : cX3_raw.data.toList.drop 48 = dktX3_raw_2 := dk_seg dksX3_raw_1 24 rfl rfl
theorem dksX3_raw_3 : cX3_raw.data.toList.drop 72 = dktX3_raw_3 := dk_seg dksX3_raw_2 24 rfl rfl
theorem dksX3_raw_4 : cX3_raw.data.toList.drop 96 = dktX3_raw_4 := dk_seg dksX3_raw_3 24 rfl rfl
theorem dksX3_raw_5 : cX3_raw.data.toList.drop 120 = dktX3_raw_5 := dk_seg dksX3_raw_4 24 rfl rfl
theorem dX3_raw_0 : decode cX3_raw 0 = .ok (.iload_n 1, 1) := dk_27 (dk_at dksX3_raw_0 0 rfl rfl)
theorem dX3_raw_1 : decode cX3_raw 1 = .ok (.i2l, 1) := dk_133 (dk_at dksX3_raw_0 1 rfl rfl)
theorem dX3_raw_2 : decode cX3_raw 2 = .ok (.lconst 0, 1) := dk_9 (dk_at dksX3_raw_0 2 rfl rfl)
theorem dX3_raw_3 : decode cX3_raw 3 = .ok (.ldc2_w 129, 3) := dk_20 0 129 (dk_at dksX3_raw_0 3 rfl rfl)
theorem dX3_raw_6 : decode cX3_raw 6 = .ok (.invokestatic 101, 3) := dk_184 0 101 (dk_at dksX3_raw_0 6 rfl rfl)
theorem dX3_raw_9 : decode cX3_raw 9 = .ok (.ifCond .ne 6, 3) := dk_154 0 6 (dk_at dksX3_raw_0 9 rfl rfl)
theorem dX3_raw_12 : decode cX3_raw 12 = .ok (.ldc 116, 2) := dk_18 116 (dk_at dksX3_raw_0 12 rfl rfl)
theorem dX3_raw_14 : decode cX3_raw 14 = .ok (.ireturn, 1) := dk_172 (dk_at dksX3_raw_0 14 rfl rfl)
theorem dX3_raw_15 : decode cX3_raw 15 = .ok (.iload_n 2, 1) := dk_28 (dk_at dksX3_raw_0 15 rfl rfl)
theorem dX3_raw_16 : decode cX3_raw 16 = .ok (.ifCond .ge 9, 3) := dk_156 0 9 (dk_at dksX3_raw_0 16 rfl rfl)
theorem dX3_raw_19 : decode cX3_raw 19 = .ok (.aload_n 0, 1) := dk_42 (dk_at dksX3_raw_0 19 rfl rfl)
theorem dX3_raw_20 : decode cX3_raw 20 = .ok (.iconst 4, 1) := dk_7 (dk_at dksX3_raw_0 20 rfl rfl)
theorem dX3_raw_21 : decode cX3_raw 21 = .ok (.invokevirtual 68, 3) := dk_182 0 68 (dk_at dksX3_raw_0 21 rfl rfl)
theorem dX3_raw_24 : decode cX3_raw 24 = .ok (.ireturn, 1) := dk_172 (dk_at dksX3_raw_1 0 rfl rfl)
theorem dX3_raw_25 : decode cX3_raw 25 = .ok (.iload_n 2, 1) := dk_28 (dk_at dksX3_raw_1 1 rfl rfl)
theorem dX3_raw_26 : decode cX3_raw 26 = .ok (.sipush 500, 3) := dk_17 1 244 (dk_at dksX3_raw_1 2 rfl rfl)
theorem dX3_raw_29 : decode cX3_raw 29 = .ok (.if_icmp .le 9, 3) := dk_164 0 9 (dk_at dksX3_raw_1 5 rfl rfl)
theorem dX3_raw_32 : decode cX3_raw 32 = .ok (.aload_n 0, 1) := dk_42 (dk_at dksX3_raw_1 8 rfl rfl)
theorem dX3_raw_33 : decode cX3_raw 33 = .ok (.iconst 5, 1) := dk_8 (dk_at dksX3_raw_1 9 rfl rfl)
theorem dX3_raw_34 : decode cX3_raw 34 = .ok (.invokevirtual 68, 3) := dk_182 0 68 (dk_at dksX3_raw_1 10 rfl rfl)
theorem dX3_raw_37 : decode cX3_raw 37 = .ok (.ireturn, 1) := dk_172 (dk_at dksX3_raw_1 13 rfl rfl)
theorem dX3_raw_38 : decode cX3_raw 38 = .ok (.aload_n 0, 1) := dk_42 (dk_at dksX3_raw_1 14 rfl rfl)
theorem dX3_raw_39 : decode cX3_raw 39 = .ok (.getfield 98, 3) := dk_180 0 98 (dk_at dksX3_raw_1 15 rfl rfl)
theorem dX3_raw_42 : decode cX3_raw 42 = .ok (.bipush 24, 2) := dk_16 24 (dk_at dksX3_raw_1 18 rfl rfl)
theorem dX3_raw_44 : decode cX3_raw 44 = .ok (.if_icmp .ne 10, 3) := dk_160 0 10 (dk_at dksX3_raw_1 20 rfl rfl)
theorem dX3_raw_47 : decode cX3_raw 47 = .ok (.aload_n 0, 1) := dk_42 (dk_at dksX3_raw_1 23 rfl rfl)
theorem dX3_raw_48 : decode cX3_raw 48 = .ok (.bipush 8, 2) := dk_16 8 (dk_at dksX3_raw_2 0 rfl rfl)
theorem dX3_raw_50 : decode cX3_raw 50 = .ok (.invokevirtual 68, 3) := dk_182 0 68 (dk_at dksX3_raw_2 2 rfl rfl)
theorem dX3_raw_53 : decode cX3_raw 53 = .ok (.ireturn, 1) := dk_172 (dk_at dksX3_raw_2 5 rfl rfl)
theorem dX3_raw_54 : decode cX3_raw 54 = .ok (.aload_n 0, 1) := dk_42 (dk_at dksX3_raw_2 6 rfl rfl)
theorem dX3_raw_55 : decode cX3_raw 55 = .ok (.getfield 20, 3) := dk_180 0 20 (dk_at dksX3_raw_2 7 rfl rfl)
theorem dX3_raw_58 : decode cX3_raw 58 = .ok (.aload_n 0, 1) := dk_42 (dk_at dksX3_raw_2 10 rfl rfl)
theorem dX3_raw_59 : decode cX3_raw 59 = .ok (.getfield 98, 3) := dk_180 0 98 (dk_at dksX3_raw_2 11 rfl rfl)
theorem dX3_raw_62 : decode cX3_raw 62 = .ok (.iload_n 1, 1) := dk_27 (dk_at dksX3_raw_2 14 rfl rfl)
theorem dX3_raw_63 : decode cX3_raw 63 = .ok (.iastore, 1) := dk_79 (dk_at dksX3_raw_2 15 rfl rfl)
theorem dX3_raw_64 : decode cX3_raw 64 = .ok (.aload_n 0, 1) := dk_42 (dk_at dksX3_raw_2 16 rfl rfl)
theorem dX3_raw_65 : decode cX3_raw 65 = .ok (.getfield 23, 3) := dk_180 0 23 (dk_at dksX3_raw_2 17 rfl rfl)
theorem dX3_raw_68 : decode cX3_raw 68 = .ok (.aload_n 0, 1) := dk_42 (dk_at dksX3_raw_2 20 rfl rfl)
theorem dX3_raw_69 : decode cX3_raw 69 = .ok (.getfield 98, 3) := dk_180 0 98 (dk_at dksX3_raw_2 21 rfl rfl)
theorem dX3_raw_72 : decode cX3_raw 72 = .ok (.iconst 1, 1) := dk_4 (dk_at dksX3_raw_3 0 rfl rfl)
theorem dX3_raw_73 : decode cX3_raw 73 = .ok (.iastore, 1) := dk_79 (dk_at dksX3_raw_3 1 rfl rfl)
theorem dX3_raw_74 : decode cX3_raw 74 = .ok (.aload_n 0, 1) := dk_42 (dk_at dksX3_raw_3 2 rfl rfl)
theorem dX3_raw_75 : decode cX3_raw 75 = .ok (.getfield 26, 3) := dk_180 0 26 (dk_at dksX3_raw_3 3 rfl rfl)
theorem dX3_raw_78 : decode cX3_raw 78 = .ok (.iconst 3, 1) := dk_6 (dk_at dksX3_raw_3 6 rfl rfl)
theorem dX3_raw_79 : decode cX3_raw 79 = .ok (.aload_n 0, 1) := dk_42 (dk_at dksX3_raw_3 7 rfl rfl)
theorem dX3_raw_80 : decode cX3_raw 80 = .ok (.getfield 98, 3) := dk_180 0 98 (dk_at dksX3_raw_3 8 rfl rfl)
theorem dX3_raw_83 : decode cX3_raw 83 = .ok (.imul, 1) := dk_104 (dk_at dksX3_raw_3 11 rfl rfl)
theorem dX3_raw_84 : decode cX3_raw 84 = .ok (.iconst 0, 1) := dk_3 (dk_at dksX3_raw_3 12 rfl rfl)
theorem dX3_raw_85 : decode cX3_raw 85 = .ok (.iastore, 1) := dk_79 (dk_at dksX3_raw_3 13 rfl rfl)
theorem dX3_raw_86 : decode cX3_raw 86 = .ok (.aload_n 0, 1) := dk_42 (dk_at dksX3_raw_3 14 rfl rfl)
theorem dX3_raw_87 : decode cX3_raw 87 = .ok (.getfield 29, 3) := dk_180 0 29 (dk_at dksX3_raw_3 15 rfl rfl)
theorem dX3_raw_90 : decode cX3_raw 90 = .ok (.iconst 3, 1) := dk_6 (dk_at dksX3_raw_3 18 rfl rfl)
theorem dX3_raw_91 : decode cX3_raw 91 = .ok (.aload_n 0, 1) := dk_42 (dk_at dksX3_raw_3 19 rfl rfl)
theorem dX3_raw_92 : decode cX3_raw 92 = .ok (.getfield 98, 3) := dk_180 0 98 (dk_at dksX3_raw_3 20 rfl rfl)
theorem dX3_raw_95 : decode cX3_raw 95 = .ok (.imul, 1) := dk_104 (dk_at dksX3_raw_3 23 rfl rfl)
theorem dX3_raw_96 : decode cX3_raw 96 = .ok (.iload_n 2, 1) := dk_28 (dk_at dksX3_raw_4 0 rfl rfl)
theorem dX3_raw_97 : decode cX3_raw 97 = .ok (.iconst 1, 1) := dk_4 (dk_at dksX3_raw_4 1 rfl rfl)
theorem dX3_raw_98 : decode cX3_raw 98 = .ok (.isub, 1) := dk_100 (dk_at dksX3_raw_4 2 rfl rfl)
theorem dX3_raw_99 : decode cX3_raw 99 = .ok (.iastore, 1) := dk_79 (dk_at dksX3_raw_4 3 rfl rfl)
theorem dX3_raw_100 : decode cX3_raw 100 = .ok (.aload_n 0, 1) := dk_42 (dk_at dksX3_raw_4 4 rfl rfl)
theorem dX3_raw_101 : decode cX3_raw 101 = .ok (.getfield 32, 3) := dk_180 0 32 (dk_at dksX3_raw_4 5 rfl rfl)
theorem dX3_raw_104 : decode cX3_raw 104 = .ok (.aload_n 0, 1) := dk_42 (dk_at dksX3_raw_4 8 rfl rfl)
theorem dX3_raw_105 : decode cX3_raw 105 = .ok (.getfield 98, 3) := dk_180 0 98 (dk_at dksX3_raw_4 9 rfl rfl)
theorem dX3_raw_108 : decode cX3_raw 108 = .ok (.aload_n 0, 1) := dk_42 (dk_at dksX3_raw_4 12 rfl rfl)
theorem dX3_raw_109 : decode cX3_raw 109 = .ok (.iload_n 2, 1) := dk_28 (dk_at dksX3_raw_4 13 rfl rfl)
theorem dX3_raw_110 : decode cX3_raw 110 = .ok (.invokevirtual 111, 3) := dk_182 0 111 (dk_at dksX3_raw_4 14 rfl rfl)
theorem dX3_raw_113 : decode cX3_raw 113 = .ok (.iastore, 1) := dk_79 (dk_at dksX3_raw_4 17 rfl rfl)
theorem dX3_raw_114 : decode cX3_raw 114 = .ok (.aload_n 0, 1) := dk_42 (dk_at dksX3_raw_4 18 rfl rfl)
theorem dX3_raw_115 : decode cX3_raw 115 = .ok (.dup, 1) := dk_89 (dk_at dksX3_raw_4 19 rfl rfl)
theorem dX3_raw_116 : decode cX3_raw 116 = .ok (.getfield 98, 3) := dk_180 0 98 (dk_at dksX3_raw_4 20 rfl rfl)
theorem dX3_raw_119 : decode cX3_raw 119 = .ok (.iconst 1, 1) := dk_4 (dk_at dksX3_raw_4 23 rfl rfl)
theorem dX3_raw_120 : decode cX3_raw 120 = .ok (.iadd, 1) := dk_96 (dk_at dksX3_raw_5 0 rfl rfl)
theorem dX3_raw_121 : decode cX3_raw 121 = .ok (.putfield 98, 3) := dk_181 0 98 (dk_at dksX3_raw_5 1 rfl rfl)
theorem dX3_raw_124 : decode cX3_raw 124 = .ok (.aload_n 0, 1) := dk_42 (dk_at dksX3_raw_5 4 rfl rfl)
theorem dX3_raw_125 : decode cX3_raw 125 = .ok (.aload_n 0, 1) := dk_42 (dk_at dksX3_raw_5 5 rfl rfl)
theorem dX3_raw_126 : decode cX3_raw 126 = .ok (.getfield 98, 3) := dk_180 0 98 (dk_at dksX3_raw_5 6 rfl rfl)
theorem dX3_raw_129 : decode cX3_raw 129 = .ok (.iconst 1, 1) := dk_4 (dk_at dksX3_raw_5 9 rfl rfl)
theorem dX3_raw_130 : decode cX3_raw 130 = .ok (.isub, 1) := dk_100 (dk_at dksX3_raw_5 10 rfl rfl)
theorem dX3_raw_131 : decode cX3_raw 131 = .ok (.invokevirtual 75, 3) := dk_182 0 75 (dk_at dksX3_raw_5 11 rfl rfl)
theorem dX3_raw_134 : decode cX3_raw 134 = .ok (.ireturn, 1) := dk_172 (dk_at dksX3_raw_5 14 rfl rfl)
abbrev cX3_see : ByteArray := prog_6_method_22_code
def yX3_see : MethodName := ⟨RX3, "see", "(I)I"⟩
def dkwX3_see_4 : List UInt8 := [79, 42, 3, 181, 0, 72, 42, 29, 182, 0, 75, 172]
abbrev dktX3_see_4 : List UInt8 := dkwX3_see_4 ++ []
def dkwX3_see_3 : List UInt8 := [172, 42, 42, 180, 0, 20, 27, 46, 2, 182, 0, 121, 62, 42, 180, 0, 32, 29, 42, 180, 0, 32, 27, 46]
abbrev dktX3_see_3 : List UInt8 := dkwX3_see_3 ++ dktX3_see_4
def dkwX3_see_2 : List UInt8 := [154, 0, 15, 42, 180, 0, 98, 16, 24, 160, 0, 6, 16, 8, 61, 28, 153, 0, 9, 42, 28, 182, 0, 68]
abbrev dktX3_see_2 : List UInt8 := dkwX3_see_2 ++ dktX3_see_3
def dkwX3_see_1 : List UInt8 := [42, 182, 0, 117, 42, 180, 0, 38, 42, 180, 0, 32, 27, 46, 46, 159, 0, 6, 16, 10, 61, 28]
abbrev dktX3_see_1 : List UInt8 := dkwX3_see_1 ++ dktX3_see_2
def dkwX3_see_0 : List UInt8 := [42, 27, 182, 0, 135, 61, 28, 154, 0, 13, 42, 180, 0, 72, 154, 0, 6, 16, 9, 61, 28, 154, 0, 24]
abbrev dktX3_see_0 : List UInt8 := dkwX3_see_0 ++ dktX3_see_1
theorem dksX3_see_0 : cX3_see.data.toList.drop 0 = dktX3_see_0 := by decide +kernel
theorem dksX3_see_1 : cX3_see.data.toList.drop 24 = dktX3_see_1 := dk_seg dksX3_see_0 24 rfl rfl
theorem dksX3_see_2 : cX3_see.data.toList.drop 46 = dktX3_see_2 := dk_seg dksX3_see_1 22 rfl rfl
theorem dksX3_see_3 : cX3_see.data.toList.drop 70 = dktX3_see_3 := dk_seg dksX3_see_2 24 rfl rfl
theorem dksX3_see_4 : cX3_see.data.toList.drop 94 = dktX3_see_4 := dk_seg dksX3_see_3 24 rfl rfl
theorem dX3_see_0 : decode cX3_see 0 = .ok (.aload_n 0, 1) := dk_42 (dk_at dksX3_see_0 0 rfl rfl)
theorem dX3_see_1 : decode cX3_see 1 = .ok (.iload_n 1, 1) := dk_27 (dk_at dksX3_see_0 1 rfl rfl)
theorem dX3_see_2 : decode cX3_see 2 = .ok (.invokevirtual 135, 3) := dk_182 0 135 (dk_at dksX3_see_0 2 rfl rfl)
theorem dX3_see_5 : decode cX3_see 5 = .ok (.istore_n 2, 1) := dk_61 (dk_at dksX3_see_0 5 rfl rfl)
theorem dX3_see_6 : decode cX3_see 6 = .ok (.iload_n 2, 1) := dk_28 (dk_at dksX3_see_0 6 rfl rfl)
theorem dX3_see_7 : decode cX3_see 7 = .ok (.ifCond .ne 13, 3) := dk_154 0 13 (dk_at dksX3_see_0 7 rfl rfl)
theorem dX3_see_10 : decode cX3_see 10 = .ok (.aload_n 0, 1) := dk_42 (dk_at dksX3_see_0 10 rfl rfl)
theorem dX3_see_11 : decode cX3_see 11 = .ok (.getfield 72, 3) := dk_180 0 72 (dk_at dksX3_see_0 11 rfl rfl)
theorem dX3_see_14 : decode cX3_see 14 = .ok (.ifCond .ne 6, 3) := dk_154 0 6 (dk_at dksX3_see_0 14 rfl rfl)
theorem dX3_see_17 : decode cX3_see 17 = .ok (.bipush 9, 2) := dk_16 9 (dk_at dksX3_see_0 17 rfl rfl)
theorem dX3_see_19 : decode cX3_see 19 = .ok (.istore_n 2, 1) := dk_61 (dk_at dksX3_see_0 19 rfl rfl)
theorem dX3_see_20 : decode cX3_see 20 = .ok (.iload_n 2, 1) := dk_28 (dk_at dksX3_see_0 20 rfl rfl)
theorem dX3_see_21 : decode cX3_see 21 = .ok (.ifCond .ne 24, 3) := dk_154 0 24 (dk_at dksX3_see_0 21 rfl rfl)
theorem dX3_see_24 : decode cX3_see 24 = .ok (.aload_n 0, 1) := dk_42 (dk_at dksX3_see_1 0 rfl rfl)
theorem dX3_see_25 : decode cX3_see 25 = .ok (.invokevirtual 117, 3) := dk_182 0 117 (dk_at dksX3_see_1 1 rfl rfl)
theorem dX3_see_28 : decode cX3_see 28 = .ok (.aload_n 0, 1) := dk_42 (dk_at dksX3_see_1 4 rfl rfl)
theorem dX3_see_29 : decode cX3_see 29 = .ok (.getfield 38, 3) := dk_180 0 38 (dk_at dksX3_see_1 5 rfl rfl)
theorem dX3_see_32 : decode cX3_see 32 = .ok (.aload_n 0, 1) := dk_42 (dk_at dksX3_see_1 8 rfl rfl)
theorem dX3_see_33 : decode cX3_see 33 = .ok (.getfield 32, 3) := dk_180 0 32 (dk_at dksX3_see_1 9 rfl rfl)
theorem dX3_see_36 : decode cX3_see 36 = .ok (.iload_n 1, 1) := dk_27 (dk_at dksX3_see_1 12 rfl rfl)
theorem dX3_see_37 : decode cX3_see 37 = .ok (.iaload, 1) := dk_46 (dk_at dksX3_see_1 13 rfl rfl)
theorem dX3_see_38 : decode cX3_see 38 = .ok (.iaload, 1) := dk_46 (dk_at dksX3_see_1 14 rfl rfl)
theorem dX3_see_39 : decode cX3_see 39 = .ok (.if_icmp .eq 6, 3) := dk_159 0 6 (dk_at dksX3_see_1 15 rfl rfl)
theorem dX3_see_42 : decode cX3_see 42 = .ok (.bipush 10, 2) := dk_16 10 (dk_at dksX3_see_1 18 rfl rfl)
theorem dX3_see_44 : decode cX3_see 44 = .ok (.istore_n 2, 1) := dk_61 (dk_at dksX3_see_1 20 rfl rfl)
theorem dX3_see_45 : decode cX3_see 45 = .ok (.iload_n 2, 1) := dk_28 (dk_at dksX3_see_1 21 rfl rfl)
theorem dX3_see_46 : decode cX3_see 46 = .ok (.ifCond .ne 15, 3) := dk_154 0 15 (dk_at dksX3_see_2 0 rfl rfl)
theorem dX3_see_49 : decode cX3_see 49 = .ok (.aload_n 0, 1) := dk_42 (dk_at dksX3_see_2 3 rfl rfl)
theorem dX3_see_50 : decode cX3_see 50 = .ok (.getfield 98, 3) := dk_180 0 98 (dk_at dksX3_see_2 4 rfl rfl)
theorem dX3_see_53 : decode cX3_see 53 = .ok (.bipush 24, 2) := dk_16 24 (dk_at dksX3_see_2 7 rfl rfl)
theorem dX3_see_55 : decode cX3_see 55 = .ok (.if_icmp .ne 6, 3) := dk_160 0 6 (dk_at dksX3_see_2 9 rfl rfl)
theorem dX3_see_58 : decode cX3_see 58 = .ok (.bipush 8, 2) := dk_16 8 (dk_at dksX3_see_2 12 rfl rfl)
theorem dX3_see_60 : decode cX3_see 60 = .ok (.istore_n 2, 1) := dk_61 (dk_at dksX3_see_2 14 rfl rfl)
theorem dX3_see_61 : decode cX3_see 61 = .ok (.iload_n 2, 1) := dk_28 (dk_at dksX3_see_2 15 rfl rfl)
theorem dX3_see_62 : decode cX3_see 62 = .ok (.ifCond .eq 9, 3) := dk_153 0 9 (dk_at dksX3_see_2 16 rfl rfl)
theorem dX3_see_65 : decode cX3_see 65 = .ok (.aload_n 0, 1) := dk_42 (dk_at dksX3_see_2 19 rfl rfl)
theorem dX3_see_66 : decode cX3_see 66 = .ok (.iload_n 2, 1) := dk_28 (dk_at dksX3_see_2 20 rfl rfl)
theorem dX3_see_67 : decode cX3_see 67 = .ok (.invokevirtual 68, 3) := dk_182 0 68 (dk_at dksX3_see_2 21 rfl rfl)
theorem dX3_see_70 : decode cX3_see 70 = .ok (.ireturn, 1) := dk_172 (dk_at dksX3_see_3 0 rfl rfl)
theorem dX3_see_71 : decode cX3_see 71 = .ok (.aload_n 0, 1) := dk_42 (dk_at dksX3_see_3 1 rfl rfl)
theorem dX3_see_72 : decode cX3_see 72 = .ok (.aload_n 0, 1) := dk_42 (dk_at dksX3_see_3 2 rfl rfl)
theorem dX3_see_73 : decode cX3_see 73 = .ok (.getfield 20, 3) := dk_180 0 20 (dk_at dksX3_see_3 3 rfl rfl)
theorem dX3_see_76 : decode cX3_see 76 = .ok (.iload_n 1, 1) := dk_27 (dk_at dksX3_see_3 6 rfl rfl)
theorem dX3_see_77 : decode cX3_see 77 = .ok (.iaload, 1) := dk_46 (dk_at dksX3_see_3 7 rfl rfl)
theorem dX3_see_78 : decode cX3_see 78 = .ok (.iconst (-1), 1) := dk_2 (dk_at dksX3_see_3 8 rfl rfl)
theorem dX3_see_79 : decode cX3_see 79 = .ok (.invokevirtual 121, 3) := dk_182 0 121 (dk_at dksX3_see_3 9 rfl rfl)
theorem dX3_see_82 : decode cX3_see 82 = .ok (.istore_n 3, 1) := dk_62 (dk_at dksX3_see_3 12 rfl rfl)
theorem dX3_see_83 : decode cX3_see 83 = .ok (.aload_n 0, 1) := dk_42 (dk_at dksX3_see_3 13 rfl rfl)
theorem dX3_see_84 : decode cX3_see 84 = .ok (.getfield 32, 3) := dk_180 0 32 (dk_at dksX3_see_3 14 rfl rfl)
theorem dX3_see_87 : decode cX3_see 87 = .ok (.iload_n 3, 1) := dk_29 (dk_at dksX3_see_3 17 rfl rfl)
theorem dX3_see_88 : decode cX3_see 88 = .ok (.aload_n 0, 1) := dk_42 (dk_at dksX3_see_3 18 rfl rfl)
theorem dX3_see_89 : decode cX3_see 89 = .ok (.getfield 32, 3) := dk_180 0 32 (dk_at dksX3_see_3 19 rfl rfl)
theorem dX3_see_92 : decode cX3_see 92 = .ok (.iload_n 1, 1) := dk_27 (dk_at dksX3_see_3 22 rfl rfl)
theorem dX3_see_93 : decode cX3_see 93 = .ok (.iaload, 1) := dk_46 (dk_at dksX3_see_3 23 rfl rfl)
theorem dX3_see_94 : decode cX3_see 94 = .ok (.iastore, 1) := dk_79 (dk_at dksX3_see_4 0 rfl rfl)
theorem dX3_see_95 : decode cX3_see 95 = .ok (.aload_n 0, 1) := dk_42 (dk_at dksX3_see_4 1 rfl rfl)
theorem dX3_see_96 : decode cX3_see 96 = .ok (.iconst 0, 1) := dk_3 (dk_at dksX3_see_4 2 rfl rfl)
theorem dX3_see_97 : decode cX3_see 97 = .ok (.putfield 72, 3) := dk_181 0 72 (dk_at dksX3_see_4 3 rfl rfl)
theorem dX3_see_100 : decode cX3_see 100 = .ok (.aload_n 0, 1) := dk_42 (dk_at dksX3_see_4 6 rfl rfl)
theorem dX3_see_101 : decode cX3_see 101 = .ok (.iload_n 3, 1) := dk_29 (dk_at dksX3_see_4 7 rfl rfl)
theorem dX3_see_102 : decode cX3_see 102 = .ok (.invokevirtual 75, 3) := dk_182 0 75 (dk_at dksX3_see_4 8 rfl rfl)
theorem dX3_see_105 : decode cX3_see 105 = .ok (.ireturn, 1) := dk_172 (dk_at dksX3_see_4 11 rfl rfl)
abbrev cX3_wants : ByteArray := prog_6_method_21_code
def yX3_wants : MethodName := ⟨RX3, "wants", "(I)I"⟩
def dkwX3_wants_1 : List UInt8 := [167, 0, 4, 3, 172]
abbrev dktX3_wants_1 : List UInt8 := dkwX3_wants_1 ++ []
def dkwX3_wants_0 : List UInt8 := [42, 27, 182, 0, 131, 154, 0, 8, 16, 7, 167, 0, 18, 42, 180, 0, 20, 27, 46, 7, 160, 0, 7, 5]
abbrev dktX3_wants_0 : List UInt8 := dkwX3_wants_0 ++ dktX3_wants_1
theorem dksX3_wants_0 : cX3_wants.data.toList.drop 0 = dktX3_wants_0 := by decide +kernel
theorem dksX3_wants_1 : cX3_wants.data.toList.drop 24 = dktX3_wants_1 := dk_seg dksX3_wants_0 24 rfl rfl
theorem dX3_wants_0 : decode cX3_wants 0 = .ok (.aload_n 0, 1) := dk_42 (dk_at dksX3_wants_0 0 rfl rfl)
theorem dX3_wants_1 : decode cX3_wants 1 = .ok (.iload_n 1, 1) := dk_27 (dk_at dksX3_wants_0 1 rfl rfl)
theorem dX3_wants_2 : decode cX3_wants 2 = .ok (.invokevirtual 131, 3) := dk_182 0 131 (dk_at dksX3_wants_0 2 rfl rfl)
theorem dX3_wants_5 : decode cX3_wants 5 = .ok (.ifCond .ne 8, 3) := dk_154 0 8 (dk_at dksX3_wants_0 5 rfl rfl)
theorem dX3_wants_8 : decode cX3_wants 8 = .ok (.bipush 7, 2) := dk_16 7 (dk_at dksX3_wants_0 8 rfl rfl)
theorem dX3_wants_10 : decode cX3_wants 10 = .ok (.goto 18, 3) := dk_167 0 18 (dk_at dksX3_wants_0 10 rfl rfl)
theorem dX3_wants_13 : decode cX3_wants 13 = .ok (.aload_n 0, 1) := dk_42 (dk_at dksX3_wants_0 13 rfl rfl)
theorem dX3_wants_14 : decode cX3_wants 14 = .ok (.getfield 20, 3) := dk_180 0 20 (dk_at dksX3_wants_0 14 rfl rfl)
theorem dX3_wants_17 : decode cX3_wants 17 = .ok (.iload_n 1, 1) := dk_27 (dk_at dksX3_wants_0 17 rfl rfl)
theorem dX3_wants_18 : decode cX3_wants 18 = .ok (.iaload, 1) := dk_46 (dk_at dksX3_wants_0 18 rfl rfl)
theorem dX3_wants_19 : decode cX3_wants 19 = .ok (.iconst 4, 1) := dk_7 (dk_at dksX3_wants_0 19 rfl rfl)
theorem dX3_wants_20 : decode cX3_wants 20 = .ok (.if_icmp .ne 7, 3) := dk_160 0 7 (dk_at dksX3_wants_0 20 rfl rfl)
theorem dX3_wants_23 : decode cX3_wants 23 = .ok (.iconst 2, 1) := dk_5 (dk_at dksX3_wants_0 23 rfl rfl)
theorem dX3_wants_24 : decode cX3_wants 24 = .ok (.goto 4, 3) := dk_167 0 4 (dk_at dksX3_wants_1 0 rfl rfl)
theorem dX3_wants_27 : decode cX3_wants 27 = .ok (.iconst 0, 1) := dk_3 (dk_at dksX3_wants_1 3 rfl rfl)
theorem dX3_wants_28 : decode cX3_wants 28 = .ok (.ireturn, 1) := dk_172 (dk_at dksX3_wants_1 4 rfl rfl)
abbrev cX3_isArray : ByteArray := prog_6_method_16_code
def yX3_isArray : MethodName := ⟨RX3, "isArray", "(I)Z"⟩
def dkwX3_isArray_0 : List UInt8 := [27, 133, 9, 42, 180, 0, 98, 4, 100, 133, 184, 0, 101, 172]
abbrev dktX3_isArray_0 : List UInt8 := dkwX3_isArray_0 ++ []
theorem dksX3_isArray_0 : cX3_isArray.data.toList.drop 0 = dktX3_isArray_0 := by decide +kernel
theorem dX3_isArray_0 : decode cX3_isArray 0 = .ok (.iload_n 1, 1) := dk_27 (dk_at dksX3_isArray_0 0 rfl rfl)
theorem dX3_isArray_1 : decode cX3_isArray 1 = .ok (.i2l, 1) := dk_133 (dk_at dksX3_isArray_0 1 rfl rfl)
theorem dX3_isArray_2 : decode cX3_isArray 2 = .ok (.lconst 0, 1) := dk_9 (dk_at dksX3_isArray_0 2 rfl rfl)
theorem dX3_isArray_3 : decode cX3_isArray 3 = .ok (.aload_n 0, 1) := dk_42 (dk_at dksX3_isArray_0 3 rfl rfl)
theorem dX3_isArray_4 : decode cX3_isArray 4 = .ok (.getfield 98, 3) := dk_180 0 98 (dk_at dksX3_isArray_0 4 rfl rfl)
theorem dX3_isArray_7 : decode cX3_isArray 7 = .ok (.iconst 1, 1) := dk_4 (dk_at dksX3_isArray_0 7 rfl rfl)
theorem dX3_isArray_8 : decode cX3_isArray 8 = .ok (.isub, 1) := dk_100 (dk_at dksX3_isArray_0 8 rfl rfl)
theorem dX3_isArray_9 : decode cX3_isArray 9 = .ok (.i2l, 1) := dk_133 (dk_at dksX3_isArray_0 9 rfl rfl)
theorem dX3_isArray_10 : decode cX3_isArray 10 = .ok (.invokestatic 101, 3) := dk_184 0 101 (dk_at dksX3_isArray_0 10 rfl rfl)
theorem dX3_isArray_13 : decode cX3_isArray 13 = .ok (.ireturn, 1) := dk_172 (dk_at dksX3_isArray_0 13 rfl rfl)
abbrev cX3_turn : ByteArray := prog_6_method_24_code
def yX3_turn : MethodName := ⟨RX3, "turn", "(I)I"⟩
def dkwX3_turn_13 : List UInt8 := [42, 29, 182, 0, 75, 172]
abbrev dktX3_turn_13 : List UInt8 := dkwX3_turn_13 ++ []
def dkwX3_turn_12 : List UInt8 := [21, 10, 21, 7, 104, 21, 11, 96, 21, 6, 104, 96, 21, 9, 96, 182, 0, 138, 132, 8, 1, 167, 255, 175]
abbrev dktX3_turn_12 : List UInt8 := dkwX3_turn_12 ++ dktX3_turn_13
def dkwX3_turn_11 : List UInt8 := [180, 0, 35, 42, 180, 0, 32, 27, 46, 46, 21, 8, 96, 42, 180, 0, 35, 42, 180, 0, 32, 29, 46, 46]
abbrev dktX3_turn_11 : List UInt8 := dkwX3_turn_11 ++ dktX3_turn_12
def dkwX3_turn_10 : List UInt8 := [21, 8, 21, 6, 108, 21, 5, 112, 54, 10, 21, 8, 21, 6, 108, 21, 5, 108, 54, 11, 42, 42]
abbrev dktX3_turn_10 : List UInt8 := dkwX3_turn_10 ++ dktX3_turn_11
def dkwX3_turn_9 : List UInt8 := [182, 0, 108, 136, 54, 7, 3, 54, 8, 21, 8, 21, 4, 162, 0, 80, 21, 8, 21, 6, 112, 54, 9]
abbrev dktX3_turn_9 : List UInt8 := dkwX3_turn_9 ++ dktX3_turn_10
def dkwX3_turn_8 : List UInt8 := [167, 0, 10, 42, 27, 5, 182, 0, 108, 136, 54, 6, 21, 4, 154, 0, 7, 4, 167, 0, 10, 42, 27, 3]
abbrev dktX3_turn_8 : List UInt8 := dkwX3_turn_8 ++ dktX3_turn_9
def dkwX3_turn_7 : List UInt8 := [27, 4, 182, 0, 108, 136, 54, 5, 21, 4, 153, 0, 13, 42, 180, 0, 23, 27, 46, 5, 160, 0, 7, 4]
abbrev dktX3_turn_7 : List UInt8 := dkwX3_turn_7 ++ dktX3_turn_8
def dkwX3_turn_6 : List UInt8 := [54, 4, 42, 180, 0, 32, 29, 42, 21, 4, 182, 0, 111, 79, 21, 4, 154, 0, 7, 4, 167, 0, 10, 42]
abbrev dktX3_turn_6 : List UInt8 := dkwX3_turn_6 ++ dktX3_turn_7
def dkwX3_turn_5 : List UInt8 := [29, 104, 4, 96, 42, 180, 0, 29, 6, 27, 104, 46, 79, 42, 180, 0, 38, 42, 180, 0, 32, 27, 46, 46]
abbrev dktX3_turn_5 : List UInt8 := dkwX3_turn_5 ++ dktX3_turn_6
def dkwX3_turn_4 : List UInt8 := [79, 42, 180, 0, 26, 6, 29, 104, 4, 96, 42, 180, 0, 26, 6, 27, 104, 46, 79, 42, 180, 0, 29, 6]
abbrev dktX3_turn_4 : List UInt8 := dkwX3_turn_4 ++ dktX3_turn_5
def dkwX3_turn_3 : List UInt8 := [6, 27, 104, 4, 96, 46, 79, 42, 180, 0, 29, 6, 29, 104, 42, 180, 0, 29, 6, 27, 104, 4, 96, 46]
abbrev dktX3_turn_3 : List UInt8 := dkwX3_turn_3 ++ dktX3_turn_4
def dkwX3_turn_2 : List UInt8 := [172, 42, 42, 180, 0, 20, 27, 46, 27, 182, 0, 121, 62, 42, 180, 0, 26, 6, 29, 104, 42, 180, 0, 26]
abbrev dktX3_turn_2 : List UInt8 := dkwX3_turn_2 ++ dktX3_turn_3
def dkwX3_turn_1 : List UInt8 := [154, 0, 15, 42, 180, 0, 98, 16, 24, 160, 0, 6, 16, 8, 61, 28, 153, 0, 9, 42, 28, 182, 0, 68]
abbrev dktX3_turn_1 : List UInt8 := dkwX3_turn_1 ++ dktX3_turn_2
def dkwX3_turn_0 : List UInt8 := [42, 27, 182, 0, 135, 61, 28, 154, 0, 16, 42, 180, 0, 23, 27, 46, 4, 160, 0, 6, 16, 9, 61, 28]
abbrev dktX3_turn_0 : List UInt8 := dkwX3_turn_0 ++ dktX3_turn_1
theorem dksX3_turn_0 : cX3_turn.data.toList.drop 0 = dktX3_turn_0 := by decide +kernel
theorem dksX3_turn_1 : cX3_turn.data.toList.drop 24 = dktX3_turn_1 := dk_seg dksX3_turn_0 24 rfl rfl
theorem dksX3_turn_2 : cX3_turn.data.toList.drop 48 = dktX3_turn_2 := dk_seg dksX3_turn_1 24 rfl rfl
theorem dksX3_turn_3 : cX3_turn.data.toList.drop 72 = dktX3_turn_3 := dk_seg dksX3_turn_2 24 rfl rfl
theorem dksX3_turn_4 : cX3_turn.data.toList.drop 96 = dktX3_turn_4 := dk_seg dksX3_turn_3 24 rfl rfl
theorem dksX3_turn_5 : cX3_turn.data.toList.drop 120 = dktX3_turn_5 := dk_seg dksX3_turn_4 24 rfl rfl
theorem dksX3_turn_6 : cX3_turn.data.toList.drop 144 = dktX3_turn_6 := dk_seg dksX3_turn_5 24 rfl rfl
theorem dksX3_turn_7 : cX3_turn.data.toList.drop 168 = dktX3_turn_7 := dk_seg dksX3_turn_6 24 rfl rfl
theorem dksX3_turn_8 : cX3_turn.data.toList.drop 192 = dktX3_turn_8 := dk_seg dksX3_turn_7 24 rfl rfl
theorem dksX3_turn_9 : cX3_turn.data.toList.drop 216 = dktX3_turn_9 := dk_seg dksX3_turn_8 24 rfl rfl
theorem dksX3_turn_10 : cX3_turn.data.toList.drop 239 = dktX3_turn_10 := dk_seg dksX3_turn_9 23 rfl rfl
theorem dksX3_turn_11 : cX3_turn.data.toList.drop 261 = dktX3_turn_11 := dk_seg dksX3_turn_10 22 rfl rfl
theorem dksX3_turn_12 : cX3_turn.data.toList.drop 285 = dktX3_turn_12 := dk_seg dksX3_turn_11 24 rfl rfl
theorem dksX3_turn_13 : cX3_turn.data.toList.drop 309 = dktX3_turn_13 := dk_seg dksX3_turn_12 24 rfl rfl
theorem dX3_turn_0 : decode cX3_turn 0 = .ok (.aload_n 0, 1) := dk_42 (dk_at dksX3_turn_0 0 rfl rfl)
theorem dX3_turn_1 : decode cX3_turn 1 = .ok (.iload_n 1, 1) := dk_27 (dk_at dksX3_turn_0 1 rfl rfl)
theorem dX3_turn_2 : decode cX3_turn 2 = .ok (.invokevirtual 135, 3) := dk_182 0 135 (dk_at dksX3_turn_0 2 rfl rfl)
theorem dX3_turn_5 : decode cX3_turn 5 = .ok (.istore_n 2, 1) := dk_61 (dk_at dksX3_turn_0 5 rfl rfl)
theorem dX3_turn_6 : decode cX3_turn 6 = .ok (.iload_n 2, 1) := dk_28 (dk_at dksX3_turn_0 6 rfl rfl)
theorem dX3_turn_7 : decode cX3_turn 7 = .ok (.ifCond .ne 16, 3) := dk_154 0 16 (dk_at dksX3_turn_0 7 rfl rfl)
theorem dX3_turn_10 : decode cX3_turn 10 = .ok (.aload_n 0, 1) := dk_42 (dk_at dksX3_turn_0 10 rfl rfl)
theorem dX3_turn_11 : decode cX3_turn 11 = .ok (.getfield 23, 3) := dk_180 0 23 (dk_at dksX3_turn_0 11 rfl rfl)
theorem dX3_turn_14 : decode cX3_turn 14 = .ok (.iload_n 1, 1) := dk_27 (dk_at dksX3_turn_0 14 rfl rfl)
theorem dX3_turn_15 : decode cX3_turn 15 = .ok (.iaload, 1) := dk_46 (dk_at dksX3_turn_0 15 rfl rfl)
theorem dX3_turn_16 : decode cX3_turn 16 = .ok (.iconst 1, 1) := dk_4 (dk_at dksX3_turn_0 16 rfl rfl)
theorem dX3_turn_17 : decode cX3_turn 17 = .ok (.if_icmp .ne 6, 3) := dk_160 0 6 (dk_at dksX3_turn_0 17 rfl rfl)
theorem dX3_turn_20 : decode cX3_turn 20 = .ok (.bipush 9, 2) := dk_16 9 (dk_at dksX3_turn_0 20 rfl rfl)
theorem dX3_turn_22 : decode cX3_turn 22 = .ok (.istore_n 2, 1) := dk_61 (dk_at dksX3_turn_0 22 rfl rfl)
theorem dX3_turn_23 : decode cX3_turn 23 = .ok (.iload_n 2, 1) := dk_28 (dk_at dksX3_turn_0 23 rfl rfl)
theorem dX3_turn_24 : decode cX3_turn 24 = .ok (.ifCond .ne 15, 3) := dk_154 0 15 (dk_at dksX3_turn_1 0 rfl rfl)
theorem dX3_turn_27 : decode cX3_turn 27 = .ok (.aload_n 0, 1) := dk_42 (dk_at dksX3_turn_1 3 rfl rfl)
theorem dX3_turn_28 : decode cX3_turn 28 = .ok (.getfield 98, 3) := dk_180 0 98 (dk_at dksX3_turn_1 4 rfl rfl)
theorem dX3_turn_31 : decode cX3_turn 31 = .ok (.bipush 24, 2) := dk_16 24 (dk_at dksX3_turn_1 7 rfl rfl)
theorem dX3_turn_33 : decode cX3_turn 33 = .ok (.if_icmp .ne 6, 3) := dk_160 0 6 (dk_at dksX3_turn_1 9 rfl rfl)
theorem dX3_turn_36 : decode cX3_turn 36 = .ok (.bipush 8, 2) := dk_16 8 (dk_at dksX3_turn_1 12 rfl rfl)
theorem dX3_turn_38 : decode cX3_turn 38 = .ok (.istore_n 2, 1) := dk_61 (dk_at dksX3_turn_1 14 rfl rfl)
theorem dX3_turn_39 : decode cX3_turn 39 = .ok (.iload_n 2, 1) := dk_28 (dk_at dksX3_turn_1 15 rfl rfl)
theorem dX3_turn_40 : decode cX3_turn 40 = .ok (.ifCond .eq 9, 3) := dk_153 0 9 (dk_at dksX3_turn_1 16 rfl rfl)
theorem dX3_turn_43 : decode cX3_turn 43 = .ok (.aload_n 0, 1) := dk_42 (dk_at dksX3_turn_1 19 rfl rfl)
theorem dX3_turn_44 : decode cX3_turn 44 = .ok (.iload_n 2, 1) := dk_28 (dk_at dksX3_turn_1 20 rfl rfl)
theorem dX3_turn_45 : decode cX3_turn 45 = .ok (.invokevirtual 68, 3) := dk_182 0 68 (dk_at dksX3_turn_1 21 rfl rfl)
theorem dX3_turn_48 : decode cX3_turn 48 = .ok (.ireturn, 1) := dk_172 (dk_at dksX3_turn_2 0 rfl rfl)
theorem dX3_turn_49 : decode cX3_turn 49 = .ok (.aload_n 0, 1) := dk_42 (dk_at dksX3_turn_2 1 rfl rfl)
theorem dX3_turn_50 : decode cX3_turn 50 = .ok (.aload_n 0, 1) := dk_42 (dk_at dksX3_turn_2 2 rfl rfl)
theorem dX3_turn_51 : decode cX3_turn 51 = .ok (.getfield 20, 3) := dk_180 0 20 (dk_at dksX3_turn_2 3 rfl rfl)
theorem dX3_turn_54 : decode cX3_turn 54 = .ok (.iload_n 1, 1) := dk_27 (dk_at dksX3_turn_2 6 rfl rfl)
theorem dX3_turn_55 : decode cX3_turn 55 = .ok (.iaload, 1) := dk_46 (dk_at dksX3_turn_2 7 rfl rfl)
theorem dX3_turn_56 : decode cX3_turn 56 = .ok (.iload_n 1, 1) := dk_27 (dk_at dksX3_turn_2 8 rfl rfl)
theorem dX3_turn_57 : decode cX3_turn 57 = .ok (.invokevirtual 121, 3) := dk_182 0 121 (dk_at dksX3_turn_2 9 rfl rfl)
theorem dX3_turn_60 : decode cX3_turn 60 = .ok (.istore_n 3, 1) := dk_62 (dk_at dksX3_turn_2 12 rfl rfl)
theorem dX3_turn_61 : decode cX3_turn 61 = .ok (.aload_n 0, 1) := dk_42 (dk_at dksX3_turn_2 13 rfl rfl)
theorem dX3_turn_62 : decode cX3_turn 62 = .ok (.getfield 26, 3) := dk_180 0 26 (dk_at dksX3_turn_2 14 rfl rfl)
theorem dX3_turn_65 : decode cX3_turn 65 = .ok (.iconst 3, 1) := dk_6 (dk_at dksX3_turn_2 17 rfl rfl)
theorem dX3_turn_66 : decode cX3_turn 66 = .ok (.iload_n 3, 1) := dk_29 (dk_at dksX3_turn_2 18 rfl rfl)
theorem dX3_turn_67 : decode cX3_turn 67 = .ok (.imul, 1) := dk_104 (dk_at dksX3_turn_2 19 rfl rfl)
theorem dX3_turn_68 : decode cX3_turn 68 = .ok (.aload_n 0, 1) := dk_42 (dk_at dksX3_turn_2 20 rfl rfl)
theorem dX3_turn_69 : decode cX3_turn 69 = .ok (.getfield 26, 3) := dk_180 0 26 (dk_at dksX3_turn_2 21 rfl rfl)
theorem dX3_turn_72 : decode cX3_turn 72 = .ok (.iconst 3, 1) := dk_6 (dk_at dksX3_turn_3 0 rfl rfl)
theorem dX3_turn_73 : decode cX3_turn 73 = .ok (.iload_n 1, 1) := dk_27 (dk_at dksX3_turn_3 1 rfl rfl)
theorem dX3_turn_74 : decode cX3_turn 74 = .ok (.imul, 1) := dk_104 (dk_at dksX3_turn_3 2 rfl rfl)
theorem dX3_turn_75 : decode cX3_turn 75 = .ok (.iconst 1, 1) := dk_4 (dk_at dksX3_turn_3 3 rfl rfl)
theorem dX3_turn_76 : decode cX3_turn 76 = .ok (.iadd, 1) := dk_96 (dk_at dksX3_turn_3 4 rfl rfl)
theorem dX3_turn_77 : decode cX3_turn 77 = .ok (.iaload, 1) := dk_46 (dk_at dksX3_turn_3 5 rfl rfl)
theorem dX3_turn_78 : decode cX3_turn 78 = .ok (.iastore, 1) := dk_79 (dk_at dksX3_turn_3 6 rfl rfl)
theorem dX3_turn_79 : decode cX3_turn 79 = .ok (.aload_n 0, 1) := dk_42 (dk_at dksX3_turn_3 7 rfl rfl)
theorem dX3_turn_80 : decode cX3_turn 80 = .ok (.getfield 29, 3) := dk_180 0 29 (dk_at dksX3_turn_3 8 rfl rfl)
theorem dX3_turn_83 : decode cX3_turn 83 = .ok (.iconst 3, 1) := dk_6 (dk_at dksX3_turn_3 11 rfl rfl)
theorem dX3_turn_84 : decode cX3_turn 84 = .ok (.iload_n 3, 1) := dk_29 (dk_at dksX3_turn_3 12 rfl rfl)
theorem dX3_turn_85 : decode cX3_turn 85 = .ok (.imul, 1) := dk_104 (dk_at dksX3_turn_3 13 rfl rfl)
theorem dX3_turn_86 : decode cX3_turn 86 = .ok (.aload_n 0, 1) := dk_42 (dk_at dksX3_turn_3 14 rfl rfl)
theorem dX3_turn_87 : decode cX3_turn 87 = .ok (.getfield 29, 3) := dk_180 0 29 (dk_at dksX3_turn_3 15 rfl rfl)
theorem dX3_turn_90 : decode cX3_turn 90 = .ok (.iconst 3, 1) := dk_6 (dk_at dksX3_turn_3 18 rfl rfl)
theorem dX3_turn_91 : decode cX3_turn 91 = .ok (.iload_n 1, 1) := dk_27 (dk_at dksX3_turn_3 19 rfl rfl)
theorem dX3_turn_92 : decode cX3_turn 92 = .ok (.imul, 1) := dk_104 (dk_at dksX3_turn_3 20 rfl rfl)
theorem dX3_turn_93 : decode cX3_turn 93 = .ok (.iconst 1, 1) := dk_4 (dk_at dksX3_turn_3 21 rfl rfl)
theorem dX3_turn_94 : decode cX3_turn 94 = .ok (.iadd, 1) := dk_96 (dk_at dksX3_turn_3 22 rfl rfl)
theorem dX3_turn_95 : decode cX3_turn 95 = .ok (.iaload, 1) := dk_46 (dk_at dksX3_turn_3 23 rfl rfl)
theorem dX3_turn_96 : decode cX3_turn 96 = .ok (.iastore, 1) := dk_79 (dk_at dksX3_turn_4 0 rfl rfl)
theorem dX3_turn_97 : decode cX3_turn 97 = .ok (.aload_n 0, 1) := dk_42 (dk_at dksX3_turn_4 1 rfl rfl)
theorem dX3_turn_98 : decode cX3_turn 98 = .ok (.getfield 26, 3) := dk_180 0 26 (dk_at dksX3_turn_4 2 rfl rfl)
theorem dX3_turn_101 : decode cX3_turn 101 = .ok (.iconst 3, 1) := dk_6 (dk_at dksX3_turn_4 5 rfl rfl)
theorem dX3_turn_102 : decode cX3_turn 102 = .ok (.iload_n 3, 1) := dk_29 (dk_at dksX3_turn_4 6 rfl rfl)
theorem dX3_turn_103 : decode cX3_turn 103 = .ok (.imul, 1) := dk_104 (dk_at dksX3_turn_4 7 rfl rfl)
theorem dX3_turn_104 : decode cX3_turn 104 = .ok (.iconst 1, 1) := dk_4 (dk_at dksX3_turn_4 8 rfl rfl)
theorem dX3_turn_105 : decode cX3_turn 105 = .ok (.iadd, 1) := dk_96 (dk_at dksX3_turn_4 9 rfl rfl)
theorem dX3_turn_106 : decode cX3_turn 106 = .ok (.aload_n 0, 1) := dk_42 (dk_at dksX3_turn_4 10 rfl rfl)
theorem dX3_turn_107 : decode cX3_turn 107 = .ok (.getfield 26, 3) := dk_180 0 26 (dk_at dksX3_turn_4 11 rfl rfl)
theorem dX3_turn_110 : decode cX3_turn 110 = .ok (.iconst 3, 1) := dk_6 (dk_at dksX3_turn_4 14 rfl rfl)
theorem dX3_turn_111 : decode cX3_turn 111 = .ok (.iload_n 1, 1) := dk_27 (dk_at dksX3_turn_4 15 rfl rfl)
theorem dX3_turn_112 : decode cX3_turn 112 = .ok (.imul, 1) := dk_104 (dk_at dksX3_turn_4 16 rfl rfl)
theorem dX3_turn_113 : decode cX3_turn 113 = .ok (.iaload, 1) := dk_46 (dk_at dksX3_turn_4 17 rfl rfl)
theorem dX3_turn_114 : decode cX3_turn 114 = .ok (.iastore, 1) := dk_79 (dk_at dksX3_turn_4 18 rfl rfl)
theorem dX3_turn_115 : decode cX3_turn 115 = .ok (.aload_n 0, 1) := dk_42 (dk_at dksX3_turn_4 19 rfl rfl)
theorem dX3_turn_116 : decode cX3_turn 116 = .ok (.getfield 29, 3) := dk_180 0 29 (dk_at dksX3_turn_4 20 rfl rfl)
theorem dX3_turn_119 : decode cX3_turn 119 = .ok (.iconst 3, 1) := dk_6 (dk_at dksX3_turn_4 23 rfl rfl)
theorem dX3_turn_120 : decode cX3_turn 120 = .ok (.iload_n 3, 1) := dk_29 (dk_at dksX3_turn_5 0 rfl rfl)
theorem dX3_turn_121 : decode cX3_turn 121 = .ok (.imul, 1) := dk_104 (dk_at dksX3_turn_5 1 rfl rfl)
theorem dX3_turn_122 : decode cX3_turn 122 = .ok (.iconst 1, 1) := dk_4 (dk_at dksX3_turn_5 2 rfl rfl)
theorem dX3_turn_123 : decode cX3_turn 123 = .ok (.iadd, 1) := dk_96 (dk_at dksX3_turn_5 3 rfl rfl)
theorem dX3_turn_124 : decode cX3_turn 124 = .ok (.aload_n 0, 1) := dk_42 (dk_at dksX3_turn_5 4 rfl rfl)
theorem dX3_turn_125 : decode cX3_turn 125 = .ok (.getfield 29, 3) := dk_180 0 29 (dk_at dksX3_turn_5 5 rfl rfl)
theorem dX3_turn_128 : decode cX3_turn 128 = .ok (.iconst 3, 1) := dk_6 (dk_at dksX3_turn_5 8 rfl rfl)
theorem dX3_turn_129 : decode cX3_turn 129 = .ok (.iload_n 1, 1) := dk_27 (dk_at dksX3_turn_5 9 rfl rfl)
theorem dX3_turn_130 : decode cX3_turn 130 = .ok (.imul, 1) := dk_104 (dk_at dksX3_turn_5 10 rfl rfl)
theorem dX3_turn_131 : decode cX3_turn 131 = .ok (.iaload, 1) := dk_46 (dk_at dksX3_turn_5 11 rfl rfl)
theorem dX3_turn_132 : decode cX3_turn 132 = .ok (.iastore, 1) := dk_79 (dk_at dksX3_turn_5 12 rfl rfl)
theorem dX3_turn_133 : decode cX3_turn 133 = .ok (.aload_n 0, 1) := dk_42 (dk_at dksX3_turn_5 13 rfl rfl)
theorem dX3_turn_134 : decode cX3_turn 134 = .ok (.getfield 38, 3) := dk_180 0 38 (dk_at dksX3_turn_5 14 rfl rfl)
theorem dX3_turn_137 : decode cX3_turn 137 = .ok (.aload_n 0, 1) := dk_42 (dk_at dksX3_turn_5 17 rfl rfl)
theorem dX3_turn_138 : decode cX3_turn 138 = .ok (.getfield 32, 3) := dk_180 0 32 (dk_at dksX3_turn_5 18 rfl rfl)
theorem dX3_turn_141 : decode cX3_turn 141 = .ok (.iload_n 1, 1) := dk_27 (dk_at dksX3_turn_5 21 rfl rfl)
theorem dX3_turn_142 : decode cX3_turn 142 = .ok (.iaload, 1) := dk_46 (dk_at dksX3_turn_5 22 rfl rfl)
theorem dX3_turn_143 : decode cX3_turn 143 = .ok (.iaload, 1) := dk_46 (dk_at dksX3_turn_5 23 rfl rfl)
theorem dX3_turn_144 : decode cX3_turn 144 = .ok (.istore 4, 2) := dk_54 4 (dk_at dksX3_turn_6 0 rfl rfl)
theorem dX3_turn_146 : decode cX3_turn 146 = .ok (.aload_n 0, 1) := dk_42 (dk_at dksX3_turn_6 2 rfl rfl)
theorem dX3_turn_147 : decode cX3_turn 147 = .ok (.getfield 32, 3) := dk_180 0 32 (dk_at dksX3_turn_6 3 rfl rfl)
theorem dX3_turn_150 : decode cX3_turn 150 = .ok (.iload_n 3, 1) := dk_29 (dk_at dksX3_turn_6 6 rfl rfl)
theorem dX3_turn_151 : decode cX3_turn 151 = .ok (.aload_n 0, 1) := dk_42 (dk_at dksX3_turn_6 7 rfl rfl)
theorem dX3_turn_152 : decode cX3_turn 152 = .ok (.iload 4, 2) := dk_21 4 (dk_at dksX3_turn_6 8 rfl rfl)
theorem dX3_turn_154 : decode cX3_turn 154 = .ok (.invokevirtual 111, 3) := dk_182 0 111 (dk_at dksX3_turn_6 10 rfl rfl)
theorem dX3_turn_157 : decode cX3_turn 157 = .ok (.iastore, 1) := dk_79 (dk_at dksX3_turn_6 13 rfl rfl)
theorem dX3_turn_158 : decode cX3_turn 158 = .ok (.iload 4, 2) := dk_21 4 (dk_at dksX3_turn_6 14 rfl rfl)
theorem dX3_turn_160 : decode cX3_turn 160 = .ok (.ifCond .ne 7, 3) := dk_154 0 7 (dk_at dksX3_turn_6 16 rfl rfl)
theorem dX3_turn_163 : decode cX3_turn 163 = .ok (.iconst 1, 1) := dk_4 (dk_at dksX3_turn_6 19 rfl rfl)
theorem dX3_turn_164 : decode cX3_turn 164 = .ok (.goto 10, 3) := dk_167 0 10 (dk_at dksX3_turn_6 20 rfl rfl)
theorem dX3_turn_167 : decode cX3_turn 167 = .ok (.aload_n 0, 1) := dk_42 (dk_at dksX3_turn_6 23 rfl rfl)
theorem dX3_turn_168 : decode cX3_turn 168 = .ok (.iload_n 1, 1) := dk_27 (dk_at dksX3_turn_7 0 rfl rfl)
theorem dX3_turn_169 : decode cX3_turn 169 = .ok (.iconst 1, 1) := dk_4 (dk_at dksX3_turn_7 1 rfl rfl)
theorem dX3_turn_170 : decode cX3_turn 170 = .ok (.invokevirtual 108, 3) := dk_182 0 108 (dk_at dksX3_turn_7 2 rfl rfl)
theorem dX3_turn_173 : decode cX3_turn 173 = .ok (.l2i, 1) := dk_136 (dk_at dksX3_turn_7 5 rfl rfl)
theorem dX3_turn_174 : decode cX3_turn 174 = .ok (.istore 5, 2) := dk_54 5 (dk_at dksX3_turn_7 6 rfl rfl)
theorem dX3_turn_176 : decode cX3_turn 176 = .ok (.iload 4, 2) := dk_21 4 (dk_at dksX3_turn_7 8 rfl rfl)
theorem dX3_turn_178 : decode cX3_turn 178 = .ok (.ifCond .eq 13, 3) := dk_153 0 13 (dk_at dksX3_turn_7 10 rfl rfl)
theorem dX3_turn_181 : decode cX3_turn 181 = .ok (.aload_n 0, 1) := dk_42 (dk_at dksX3_turn_7 13 rfl rfl)
theorem dX3_turn_182 : decode cX3_turn 182 = .ok (.getfield 23, 3) := dk_180 0 23 (dk_at dksX3_turn_7 14 rfl rfl)
theorem dX3_turn_185 : decode cX3_turn 185 = .ok (.iload_n 1, 1) := dk_27 (dk_at dksX3_turn_7 17 rfl rfl)
theorem dX3_turn_186 : decode cX3_turn 186 = .ok (.iaload, 1) := dk_46 (dk_at dksX3_turn_7 18 rfl rfl)
theorem dX3_turn_187 : decode cX3_turn 187 = .ok (.iconst 2, 1) := dk_5 (dk_at dksX3_turn_7 19 rfl rfl)
theorem dX3_turn_188 : decode cX3_turn 188 = .ok (.if_icmp .ne 7, 3) := dk_160 0 7 (dk_at dksX3_turn_7 20 rfl rfl)
theorem dX3_turn_191 : decode cX3_turn 191 = .ok (.iconst 1, 1) := dk_4 (dk_at dksX3_turn_7 23 rfl rfl)
theorem dX3_turn_192 : decode cX3_turn 192 = .ok (.goto 10, 3) := dk_167 0 10 (dk_at dksX3_turn_8 0 rfl rfl)
theorem dX3_turn_195 : decode cX3_turn 195 = .ok (.aload_n 0, 1) := dk_42 (dk_at dksX3_turn_8 3 rfl rfl)
theorem dX3_turn_196 : decode cX3_turn 196 = .ok (.iload_n 1, 1) := dk_27 (dk_at dksX3_turn_8 4 rfl rfl)
theorem dX3_turn_197 : decode cX3_turn 197 = .ok (.iconst 2, 1) := dk_5 (dk_at dksX3_turn_8 5 rfl rfl)
theorem dX3_turn_198 : decode cX3_turn 198 = .ok (.invokevirtual 108, 3) := dk_182 0 108 (dk_at dksX3_turn_8 6 rfl rfl)
theorem dX3_turn_201 : decode cX3_turn 201 = .ok (.l2i, 1) := dk_136 (dk_at dksX3_turn_8 9 rfl rfl)
theorem dX3_turn_202 : decode cX3_turn 202 = .ok (.istore 6, 2) := dk_54 6 (dk_at dksX3_turn_8 10 rfl rfl)
theorem dX3_turn_204 : decode cX3_turn 204 = .ok (.iload 4, 2) := dk_21 4 (dk_at dksX3_turn_8 12 rfl rfl)
theorem dX3_turn_206 : decode cX3_turn 206 = .ok (.ifCond .ne 7, 3) := dk_154 0 7 (dk_at dksX3_turn_8 14 rfl rfl)
theorem dX3_turn_209 : decode cX3_turn 209 = .ok (.iconst 1, 1) := dk_4 (dk_at dksX3_turn_8 17 rfl rfl)
theorem dX3_turn_210 : decode cX3_turn 210 = .ok (.goto 10, 3) := dk_167 0 10 (dk_at dksX3_turn_8 18 rfl rfl)
theorem dX3_turn_213 : decode cX3_turn 213 = .ok (.aload_n 0, 1) := dk_42 (dk_at dksX3_turn_8 21 rfl rfl)
theorem dX3_turn_214 : decode cX3_turn 214 = .ok (.iload_n 1, 1) := dk_27 (dk_at dksX3_turn_8 22 rfl rfl)
theorem dX3_turn_215 : decode cX3_turn 215 = .ok (.iconst 0, 1) := dk_3 (dk_at dksX3_turn_8 23 rfl rfl)
theorem dX3_turn_216 : decode cX3_turn 216 = .ok (.invokevirtual 108, 3) := dk_182 0 108 (dk_at dksX3_turn_9 0 rfl rfl)
theorem dX3_turn_219 : decode cX3_turn 219 = .ok (.l2i, 1) := dk_136 (dk_at dksX3_turn_9 3 rfl rfl)
theorem dX3_turn_220 : decode cX3_turn 220 = .ok (.istore 7, 2) := dk_54 7 (dk_at dksX3_turn_9 4 rfl rfl)
theorem dX3_turn_222 : decode cX3_turn 222 = .ok (.iconst 0, 1) := dk_3 (dk_at dksX3_turn_9 6 rfl rfl)
theorem dX3_turn_223 : decode cX3_turn 223 = .ok (.istore 8, 2) := dk_54 8 (dk_at dksX3_turn_9 7 rfl rfl)
theorem dX3_turn_225 : decode cX3_turn 225 = .ok (.iload 8, 2) := dk_21 8 (dk_at dksX3_turn_9 9 rfl rfl)
theorem dX3_turn_227 : decode cX3_turn 227 = .ok (.iload 4, 2) := dk_21 4 (dk_at dksX3_turn_9 11 rfl rfl)
theorem dX3_turn_229 : decode cX3_turn 229 = .ok (.if_icmp .ge 80, 3) := dk_162 0 80 (dk_at dksX3_turn_9 13 rfl rfl)
theorem dX3_turn_232 : decode cX3_turn 232 = .ok (.iload 8, 2) := dk_21 8 (dk_at dksX3_turn_9 16 rfl rfl)
theorem dX3_turn_234 : decode cX3_turn 234 = .ok (.iload 6, 2) := dk_21 6 (dk_at dksX3_turn_9 18 rfl rfl)
theorem dX3_turn_236 : decode cX3_turn 236 = .ok (.irem, 1) := dk_112 (dk_at dksX3_turn_9 20 rfl rfl)
theorem dX3_turn_237 : decode cX3_turn 237 = .ok (.istore 9, 2) := dk_54 9 (dk_at dksX3_turn_9 21 rfl rfl)
theorem dX3_turn_239 : decode cX3_turn 239 = .ok (.iload 8, 2) := dk_21 8 (dk_at dksX3_turn_10 0 rfl rfl)
theorem dX3_turn_241 : decode cX3_turn 241 = .ok (.iload 6, 2) := dk_21 6 (dk_at dksX3_turn_10 2 rfl rfl)
theorem dX3_turn_243 : decode cX3_turn 243 = .ok (.idiv, 1) := dk_108 (dk_at dksX3_turn_10 4 rfl rfl)
theorem dX3_turn_244 : decode cX3_turn 244 = .ok (.iload 5, 2) := dk_21 5 (dk_at dksX3_turn_10 5 rfl rfl)
theorem dX3_turn_246 : decode cX3_turn 246 = .ok (.irem, 1) := dk_112 (dk_at dksX3_turn_10 7 rfl rfl)
theorem dX3_turn_247 : decode cX3_turn 247 = .ok (.istore 10, 2) := dk_54 10 (dk_at dksX3_turn_10 8 rfl rfl)
theorem dX3_turn_249 : decode cX3_turn 249 = .ok (.iload 8, 2) := dk_21 8 (dk_at dksX3_turn_10 10 rfl rfl)
theorem dX3_turn_251 : decode cX3_turn 251 = .ok (.iload 6, 2) := dk_21 6 (dk_at dksX3_turn_10 12 rfl rfl)
theorem dX3_turn_253 : decode cX3_turn 253 = .ok (.idiv, 1) := dk_108 (dk_at dksX3_turn_10 14 rfl rfl)
theorem dX3_turn_254 : decode cX3_turn 254 = .ok (.iload 5, 2) := dk_21 5 (dk_at dksX3_turn_10 15 rfl rfl)
theorem dX3_turn_256 : decode cX3_turn 256 = .ok (.idiv, 1) := dk_108 (dk_at dksX3_turn_10 17 rfl rfl)
theorem dX3_turn_257 : decode cX3_turn 257 = .ok (.istore 11, 2) := dk_54 11 (dk_at dksX3_turn_10 18 rfl rfl)
theorem dX3_turn_259 : decode cX3_turn 259 = .ok (.aload_n 0, 1) := dk_42 (dk_at dksX3_turn_10 20 rfl rfl)
theorem dX3_turn_260 : decode cX3_turn 260 = .ok (.aload_n 0, 1) := dk_42 (dk_at dksX3_turn_10 21 rfl rfl)
theorem dX3_turn_261 : decode cX3_turn 261 = .ok (.getfield 35, 3) := dk_180 0 35 (dk_at dksX3_turn_11 0 rfl rfl)
theorem dX3_turn_264 : decode cX3_turn 264 = .ok (.aload_n 0, 1) := dk_42 (dk_at dksX3_turn_11 3 rfl rfl)
theorem dX3_turn_265 : decode cX3_turn 265 = .ok (.getfield 32, 3) := dk_180 0 32 (dk_at dksX3_turn_11 4 rfl rfl)
theorem dX3_turn_268 : decode cX3_turn 268 = .ok (.iload_n 1, 1) := dk_27 (dk_at dksX3_turn_11 7 rfl rfl)
theorem dX3_turn_269 : decode cX3_turn 269 = .ok (.iaload, 1) := dk_46 (dk_at dksX3_turn_11 8 rfl rfl)
theorem dX3_turn_270 : decode cX3_turn 270 = .ok (.iaload, 1) := dk_46 (dk_at dksX3_turn_11 9 rfl rfl)
theorem dX3_turn_271 : decode cX3_turn 271 = .ok (.iload 8, 2) := dk_21 8 (dk_at dksX3_turn_11 10 rfl rfl)
theorem dX3_turn_273 : decode cX3_turn 273 = .ok (.iadd, 1) := dk_96 (dk_at dksX3_turn_11 12 rfl rfl)
theorem dX3_turn_274 : decode cX3_turn 274 = .ok (.aload_n 0, 1) := dk_42 (dk_at dksX3_turn_11 13 rfl rfl)
theorem dX3_turn_275 : decode cX3_turn 275 = .ok (.getfield 35, 3) := dk_180 0 35 (dk_at dksX3_turn_11 14 rfl rfl)
theorem dX3_turn_278 : decode cX3_turn 278 = .ok (.aload_n 0, 1) := dk_42 (dk_at dksX3_turn_11 17 rfl rfl)
theorem dX3_turn_279 : decode cX3_turn 279 = .ok (.getfield 32, 3) := dk_180 0 32 (dk_at dksX3_turn_11 18 rfl rfl)
theorem dX3_turn_282 : decode cX3_turn 282 = .ok (.iload_n 3, 1) := dk_29 (dk_at dksX3_turn_11 21 rfl rfl)
theorem dX3_turn_283 : decode cX3_turn 283 = .ok (.iaload, 1) := dk_46 (dk_at dksX3_turn_11 22 rfl rfl)
theorem dX3_turn_284 : decode cX3_turn 284 = .ok (.iaload, 1) := dk_46 (dk_at dksX3_turn_11 23 rfl rfl)
theorem dX3_turn_285 : decode cX3_turn 285 = .ok (.iload 10, 2) := dk_21 10 (dk_at dksX3_turn_12 0 rfl rfl)
theorem dX3_turn_287 : decode cX3_turn 287 = .ok (.iload 7, 2) := dk_21 7 (dk_at dksX3_turn_12 2 rfl rfl)
theorem dX3_turn_289 : decode cX3_turn 289 = .ok (.imul, 1) := dk_104 (dk_at dksX3_turn_12 4 rfl rfl)
theorem dX3_turn_290 : decode cX3_turn 290 = .ok (.iload 11, 2) := dk_21 11 (dk_at dksX3_turn_12 5 rfl rfl)
theorem dX3_turn_292 : decode cX3_turn 292 = .ok (.iadd, 1) := dk_96 (dk_at dksX3_turn_12 7 rfl rfl)
theorem dX3_turn_293 : decode cX3_turn 293 = .ok (.iload 6, 2) := dk_21 6 (dk_at dksX3_turn_12 8 rfl rfl)
theorem dX3_turn_295 : decode cX3_turn 295 = .ok (.imul, 1) := dk_104 (dk_at dksX3_turn_12 10 rfl rfl)
theorem dX3_turn_296 : decode cX3_turn 296 = .ok (.iadd, 1) := dk_96 (dk_at dksX3_turn_12 11 rfl rfl)
theorem dX3_turn_297 : decode cX3_turn 297 = .ok (.iload 9, 2) := dk_21 9 (dk_at dksX3_turn_12 12 rfl rfl)
theorem dX3_turn_299 : decode cX3_turn 299 = .ok (.iadd, 1) := dk_96 (dk_at dksX3_turn_12 14 rfl rfl)
theorem dX3_turn_300 : decode cX3_turn 300 = .ok (.invokevirtual 138, 3) := dk_182 0 138 (dk_at dksX3_turn_12 15 rfl rfl)
theorem dX3_turn_303 : decode cX3_turn 303 = .ok (.iinc 8 1, 3) := dk_132 8 1 (dk_at dksX3_turn_12 18 rfl rfl)
theorem dX3_turn_306 : decode cX3_turn 306 = .ok (.goto (-81), 3) := dk_167 255 175 (dk_at dksX3_turn_12 21 rfl rfl)
theorem dX3_turn_309 : decode cX3_turn 309 = .ok (.aload_n 0, 1) := dk_42 (dk_at dksX3_turn_13 0 rfl rfl)
theorem dX3_turn_310 : decode cX3_turn 310 = .ok (.iload_n 3, 1) := dk_29 (dk_at dksX3_turn_13 1 rfl rfl)
theorem dX3_turn_311 : decode cX3_turn 311 = .ok (.invokevirtual 75, 3) := dk_182 0 75 (dk_at dksX3_turn_13 2 rfl rfl)
theorem dX3_turn_314 : decode cX3_turn 314 = .ok (.ireturn, 1) := dk_172 (dk_at dksX3_turn_13 5 rfl rfl)
abbrev cX3_copy : ByteArray := prog_6_method_23_code
def yX3_copy : MethodName := ⟨RX3, "copy", "(II)V"⟩
def dkwX3_copy_1 : List UInt8 := [177]
abbrev dktX3_copy_1 : List UInt8 := dkwX3_copy_1 ++ []
def dkwX3_copy_0 : List UInt8 := [42, 180, 0, 42, 28, 42, 180, 0, 42, 27, 47, 80, 42, 180, 0, 46, 28, 42, 180, 0, 46, 27, 51, 84]
abbrev dktX3_copy_0 : List UInt8 := dkwX3_copy_0 ++ dktX3_copy_1
theorem dksX3_copy_0 : cX3_copy.data.toList.drop 0 = dktX3_copy_0 := by decide +kernel
theorem dksX3_copy_1 : cX3_copy.data.toList.drop 24 = dktX3_copy_1 := dk_seg dksX3_copy_0 24 rfl rfl
theorem dX3_copy_0 : decode cX3_copy 0 = .ok (.aload_n 0, 1) := dk_42 (dk_at dksX3_copy_0 0 rfl rfl)
theorem dX3_copy_1 : decode cX3_copy 1 = .ok (.getfield 42, 3) := dk_180 0 42 (dk_at dksX3_copy_0 1 rfl rfl)
theorem dX3_copy_4 : decode cX3_copy 4 = .ok (.iload_n 2, 1) := dk_28 (dk_at dksX3_copy_0 4 rfl rfl)
theorem dX3_copy_5 : decode cX3_copy 5 = .ok (.aload_n 0, 1) := dk_42 (dk_at dksX3_copy_0 5 rfl rfl)
theorem dX3_copy_6 : decode cX3_copy 6 = .ok (.getfield 42, 3) := dk_180 0 42 (dk_at dksX3_copy_0 6 rfl rfl)
theorem dX3_copy_9 : decode cX3_copy 9 = .ok (.iload_n 1, 1) := dk_27 (dk_at dksX3_copy_0 9 rfl rfl)
theorem dX3_copy_10 : decode cX3_copy 10 = .ok (.laload, 1) := dk_47 (dk_at dksX3_copy_0 10 rfl rfl)
theorem dX3_copy_11 : decode cX3_copy 11 = .ok (.lastore, 1) := dk_80 (dk_at dksX3_copy_0 11 rfl rfl)
theorem dX3_copy_12 : decode cX3_copy 12 = .ok (.aload_n 0, 1) := dk_42 (dk_at dksX3_copy_0 12 rfl rfl)
theorem dX3_copy_13 : decode cX3_copy 13 = .ok (.getfield 46, 3) := dk_180 0 46 (dk_at dksX3_copy_0 13 rfl rfl)
theorem dX3_copy_16 : decode cX3_copy 16 = .ok (.iload_n 2, 1) := dk_28 (dk_at dksX3_copy_0 16 rfl rfl)
theorem dX3_copy_17 : decode cX3_copy 17 = .ok (.aload_n 0, 1) := dk_42 (dk_at dksX3_copy_0 17 rfl rfl)
theorem dX3_copy_18 : decode cX3_copy 18 = .ok (.getfield 46, 3) := dk_180 0 46 (dk_at dksX3_copy_0 18 rfl rfl)
theorem dX3_copy_21 : decode cX3_copy 21 = .ok (.iload_n 1, 1) := dk_27 (dk_at dksX3_copy_0 21 rfl rfl)
theorem dX3_copy_22 : decode cX3_copy 22 = .ok (.baload, 1) := dk_51 (dk_at dksX3_copy_0 22 rfl rfl)
theorem dX3_copy_23 : decode cX3_copy 23 = .ok (.bastore, 1) := dk_84 (dk_at dksX3_copy_0 23 rfl rfl)
theorem dX3_copy_24 : decode cX3_copy 24 = .ok (.return_, 1) := dk_177 (dk_at dksX3_copy_1 0 rfl rfl)
abbrev cX3_cut : ByteArray := prog_6_method_27_code
def yX3_cut : MethodName := ⟨RX3, "cut", "(I)I"⟩
def dkwX3_cut_15 : List UInt8 := [167, 255, 159, 42, 3, 181, 0, 72, 42, 21, 6, 182, 0, 75, 172]
abbrev dktX3_cut_15 : List UInt8 := dkwX3_cut_15 ++ []
def dkwX3_cut_14 : List UInt8 := [21, 8, 96, 42, 180, 0, 35, 42, 180, 0, 32, 21, 6, 46, 46, 21, 7, 96, 182, 0, 138, 132, 7, 1]
abbrev dktX3_cut_14 : List UInt8 := dkwX3_cut_14 ++ dktX3_cut_15
def dkwX3_cut_13 : List UInt8 := [21, 5, 112, 184, 0, 145, 182, 0, 148, 54, 8, 42, 42, 180, 0, 35, 42, 180, 0, 32, 27, 46, 46]
abbrev dktX3_cut_13 : List UInt8 := dkwX3_cut_13 ++ dktX3_cut_14
def dkwX3_cut_12 : List UInt8 := [180, 0, 13, 4, 46, 21, 7, 21, 5, 108, 21, 4, 112, 184, 0, 145, 42, 180, 0, 13, 5, 46, 21, 7]
abbrev dktX3_cut_12 : List UInt8 := dkwX3_cut_12 ++ dktX3_cut_13
def dkwX3_cut_11 : List UInt8 := [162, 0, 97, 42, 27, 42, 180, 0, 13, 3, 46, 21, 7, 21, 5, 108, 21, 4, 108, 184, 0, 145, 42]
abbrev dktX3_cut_11 : List UInt8 := dkwX3_cut_11 ++ dktX3_cut_12
def dkwX3_cut_10 : List UInt8 := [182, 0, 121, 54, 6, 42, 180, 0, 32, 21, 6, 42, 29, 182, 0, 111, 79, 3, 54, 7, 21, 7, 29]
abbrev dktX3_cut_10 : List UInt8 := dkwX3_cut_10 ++ dktX3_cut_11
def dkwX3_cut_9 : List UInt8 := [180, 0, 98, 16, 24, 160, 0, 10, 42, 16, 8, 182, 0, 68, 172, 42, 42, 180, 0, 20, 27, 46, 2]
abbrev dktX3_cut_9 : List UInt8 := dkwX3_cut_9 ++ dktX3_cut_10
def dkwX3_cut_8 : List UInt8 := [182, 0, 148, 2, 160, 0, 12, 42, 42, 180, 0, 142, 182, 0, 152, 172, 132, 6, 1, 167, 255, 181, 42]
abbrev dktX3_cut_8 : List UInt8 := dkwX3_cut_8 ++ dktX3_cut_9
def dkwX3_cut_7 : List UInt8 := [21, 5, 108, 21, 4, 112, 184, 0, 145, 42, 180, 0, 13, 5, 46, 21, 6, 21, 5, 112, 184, 0, 145]
abbrev dktX3_cut_7 : List UInt8 := dkwX3_cut_7 ++ dktX3_cut_8
def dkwX3_cut_6 : List UInt8 := [180, 0, 13, 3, 46, 21, 6, 21, 5, 108, 21, 4, 108, 184, 0, 145, 42, 180, 0, 13, 4, 46, 21, 6]
abbrev dktX3_cut_6 : List UInt8 := dkwX3_cut_6 ++ dktX3_cut_7
def dkwX3_cut_5 : List UInt8 := [180, 0, 17, 5, 46, 184, 0, 78, 136, 54, 5, 3, 54, 6, 21, 6, 29, 162, 0, 75, 42, 27, 42]
abbrev dktX3_cut_5 : List UInt8 := dkwX3_cut_5 ++ dktX3_cut_6
def dkwX3_cut_4 : List UInt8 := [153, 0, 11, 42, 180, 0, 72, 6, 162, 0, 7, 4, 167, 0, 19, 42, 180, 0, 13, 5, 46, 42]
abbrev dktX3_cut_4 : List UInt8 := dkwX3_cut_4 ++ dktX3_cut_5
def dkwX3_cut_3 : List UInt8 := [167, 0, 19, 42, 180, 0, 13, 4, 46, 42, 180, 0, 17, 4, 46, 184, 0, 78, 136, 54, 4, 29]
abbrev dktX3_cut_3 : List UInt8 := dkwX3_cut_3 ++ dktX3_cut_4
def dkwX3_cut_2 : List UInt8 := [153, 0, 9, 42, 28, 182, 0, 68, 172, 29, 153, 0, 11, 42, 180, 0, 72, 5, 162, 0, 7, 4]
abbrev dktX3_cut_2 : List UInt8 := dkwX3_cut_2 ++ dktX3_cut_3
def dkwX3_cut_1 : List UInt8 := [16, 9, 61, 42, 182, 0, 117, 62, 28, 154, 0, 12, 29, 17, 1, 244, 164, 0, 5, 8, 61, 28]
abbrev dktX3_cut_1 : List UInt8 := dkwX3_cut_1 ++ dktX3_cut_2
def dkwX3_cut_0 : List UInt8 := [42, 27, 182, 0, 135, 61, 28, 154, 0, 19, 42, 180, 0, 72, 42, 180, 0, 23, 27, 46, 159, 0, 6]
abbrev dktX3_cut_0 : List UInt8 := dkwX3_cut_0 ++ dktX3_cut_1
theorem dksX3_cut_0 : cX3_cut.data.toList.drop 0 = dktX3_cut_0 := by decide +kernel
theorem dksX3_cut_1 : cX3_cut.data.toList.drop 23 = dktX3_cut_1 := dk_seg dksX3_cut_0 23 rfl rfl
theorem dksX3_cut_2 : cX3_cut.data.toList.drop 45 = dktX3_cut_2 := dk_seg dksX3_cut_1 22 rfl rfl
theorem dksX3_cut_3 : cX3_cut.data.toList.drop 67 = dktX3_cut_3 := dk_seg dksX3_cut_2 22 rfl rfl
theorem dksX3_cut_4 : cX3_cut.data.toList.drop 89 = dktX3_cut_4 := dk_seg dksX3_cut_3 22 rfl rfl
theorem dksX3_cut_5 : cX3_cut.data.toList.drop 111 = dktX3_cut_5 := dk_seg dksX3_cut_4 22 rfl rfl
theorem dksX3_cut_6 : cX3_cut.data.toList.drop 134 = dktX3_cut_6 := dk_seg dksX3_cut_5 23 rfl rfl
theorem dksX3_cut_7 : cX3_cut.data.toList.drop 158 = dktX3_cut_7 := dk_seg dksX3_cut_6 24 rfl rfl
theorem dksX3_cut_8 : cX3_cut.data.toList.drop 181 = dktX3_cut_8 := dk_seg dksX3_cut_7 23 rfl rfl
theorem dksX3_cut_9 : cX3_cut.data.toList.drop 204 = dktX3_cut_9 := dk_seg dksX3_cut_8 23 rfl rfl
theorem dksX3_cut_10 : cX3_cut.data.toList.drop 227 = dktX3_cut_10 := dk_seg dksX3_cut_9 23 rfl rfl
theorem dksX3_cut_11 : cX3_cut.data.toList.drop 250 = dktX3_cut_11 := dk_seg dksX3_cut_10 23 rfl rfl
theorem dksX3_cut_12 : cX3_cut.data.toList.drop 273 = dktX3_cut_12 := dk_seg dksX3_cut_11 23 rfl rfl
theorem dksX3_cut_13 : cX3_cut.data.toList.drop 297 = dktX3_cut_13 := dk_seg dksX3_cut_12 24 rfl rfl
theorem dksX3_cut_14 : cX3_cut.data.toList.drop 320 = dktX3_cut_14 := dk_seg dksX3_cut_13 23 rfl rfl
theorem dksX3_cut_15 : cX3_cut.data.toList.drop 344 = dktX3_cut_15 := dk_seg dksX3_cut_14 24 rfl rfl
theorem dX3_cut_0 : decode cX3_cut 0 = .ok (.aload_n 0, 1) := dk_42 (dk_at dksX3_cut_0 0 rfl rfl)
theorem dX3_cut_1 : decode cX3_cut 1 = .ok (.iload_n 1, 1) := dk_27 (dk_at dksX3_cut_0 1 rfl rfl)
theorem dX3_cut_2 : decode cX3_cut 2 = .ok (.invokevirtual 135, 3) := dk_182 0 135 (dk_at dksX3_cut_0 2 rfl rfl)
theorem dX3_cut_5 : decode cX3_cut 5 = .ok (.istore_n 2, 1) := dk_61 (dk_at dksX3_cut_0 5 rfl rfl)
theorem dX3_cut_6 : decode cX3_cut 6 = .ok (.iload_n 2, 1) := dk_28 (dk_at dksX3_cut_0 6 rfl rfl)
theorem dX3_cut_7 : decode cX3_cut 7 = .ok (.ifCond .ne 19, 3) := dk_154 0 19 (dk_at dksX3_cut_0 7 rfl rfl)
theorem dX3_cut_10 : decode cX3_cut 10 = .ok (.aload_n 0, 1) := dk_42 (dk_at dksX3_cut_0 10 rfl rfl)
theorem dX3_cut_11 : decode cX3_cut 11 = .ok (.getfield 72, 3) := dk_180 0 72 (dk_at dksX3_cut_0 11 rfl rfl)
theorem dX3_cut_14 : decode cX3_cut 14 = .ok (.aload_n 0, 1) := dk_42 (dk_at dksX3_cut_0 14 rfl rfl)
theorem dX3_cut_15 : decode cX3_cut 15 = .ok (.getfield 23, 3) := dk_180 0 23 (dk_at dksX3_cut_0 15 rfl rfl)
theorem dX3_cut_18 : decode cX3_cut 18 = .ok (.iload_n 1, 1) := dk_27 (dk_at dksX3_cut_0 18 rfl rfl)
theorem dX3_cut_19 : decode cX3_cut 19 = .ok (.iaload, 1) := dk_46 (dk_at dksX3_cut_0 19 rfl rfl)
theorem dX3_cut_20 : decode cX3_cut 20 = .ok (.if_icmp .eq 6, 3) := dk_159 0 6 (dk_at dksX3_cut_0 20 rfl rfl)
theorem dX3_cut_23 : decode cX3_cut 23 = .ok (.bipush 9, 2) := dk_16 9 (dk_at dksX3_cut_1 0 rfl rfl)
theorem dX3_cut_25 : decode cX3_cut 25 = .ok (.istore_n 2, 1) := dk_61 (dk_at dksX3_cut_1 2 rfl rfl)
theorem dX3_cut_26 : decode cX3_cut 26 = .ok (.aload_n 0, 1) := dk_42 (dk_at dksX3_cut_1 3 rfl rfl)
theorem dX3_cut_27 : decode cX3_cut 27 = .ok (.invokevirtual 117, 3) := dk_182 0 117 (dk_at dksX3_cut_1 4 rfl rfl)
theorem dX3_cut_30 : decode cX3_cut 30 = .ok (.istore_n 3, 1) := dk_62 (dk_at dksX3_cut_1 7 rfl rfl)
theorem dX3_cut_31 : decode cX3_cut 31 = .ok (.iload_n 2, 1) := dk_28 (dk_at dksX3_cut_1 8 rfl rfl)
theorem dX3_cut_32 : decode cX3_cut 32 = .ok (.ifCond .ne 12, 3) := dk_154 0 12 (dk_at dksX3_cut_1 9 rfl rfl)
theorem dX3_cut_35 : decode cX3_cut 35 = .ok (.iload_n 3, 1) := dk_29 (dk_at dksX3_cut_1 12 rfl rfl)
theorem dX3_cut_36 : decode cX3_cut 36 = .ok (.sipush 500, 3) := dk_17 1 244 (dk_at dksX3_cut_1 13 rfl rfl)
theorem dX3_cut_39 : decode cX3_cut 39 = .ok (.if_icmp .le 5, 3) := dk_164 0 5 (dk_at dksX3_cut_1 16 rfl rfl)
theorem dX3_cut_42 : decode cX3_cut 42 = .ok (.iconst 5, 1) := dk_8 (dk_at dksX3_cut_1 19 rfl rfl)
theorem dX3_cut_43 : decode cX3_cut 43 = .ok (.istore_n 2, 1) := dk_61 (dk_at dksX3_cut_1 20 rfl rfl)
theorem dX3_cut_44 : decode cX3_cut 44 = .ok (.iload_n 2, 1) := dk_28 (dk_at dksX3_cut_1 21 rfl rfl)
theorem dX3_cut_45 : decode cX3_cut 45 = .ok (.ifCond .eq 9, 3) := dk_153 0 9 (dk_at dksX3_cut_2 0 rfl rfl)
theorem dX3_cut_48 : decode cX3_cut 48 = .ok (.aload_n 0, 1) := dk_42 (dk_at dksX3_cut_2 3 rfl rfl)
theorem dX3_cut_49 : decode cX3_cut 49 = .ok (.iload_n 2, 1) := dk_28 (dk_at dksX3_cut_2 4 rfl rfl)
theorem dX3_cut_50 : decode cX3_cut 50 = .ok (.invokevirtual 68, 3) := dk_182 0 68 (dk_at dksX3_cut_2 5 rfl rfl)
theorem dX3_cut_53 : decode cX3_cut 53 = .ok (.ireturn, 1) := dk_172 (dk_at dksX3_cut_2 8 rfl rfl)
theorem dX3_cut_54 : decode cX3_cut 54 = .ok (.iload_n 3, 1) := dk_29 (dk_at dksX3_cut_2 9 rfl rfl)
theorem dX3_cut_55 : decode cX3_cut 55 = .ok (.ifCond .eq 11, 3) := dk_153 0 11 (dk_at dksX3_cut_2 10 rfl rfl)
theorem dX3_cut_58 : decode cX3_cut 58 = .ok (.aload_n 0, 1) := dk_42 (dk_at dksX3_cut_2 13 rfl rfl)
theorem dX3_cut_59 : decode cX3_cut 59 = .ok (.getfield 72, 3) := dk_180 0 72 (dk_at dksX3_cut_2 14 rfl rfl)
theorem dX3_cut_62 : decode cX3_cut 62 = .ok (.iconst 2, 1) := dk_5 (dk_at dksX3_cut_2 17 rfl rfl)
theorem dX3_cut_63 : decode cX3_cut 63 = .ok (.if_icmp .ge 7, 3) := dk_162 0 7 (dk_at dksX3_cut_2 18 rfl rfl)
theorem dX3_cut_66 : decode cX3_cut 66 = .ok (.iconst 1, 1) := dk_4 (dk_at dksX3_cut_2 21 rfl rfl)
theorem dX3_cut_67 : decode cX3_cut 67 = .ok (.goto 19, 3) := dk_167 0 19 (dk_at dksX3_cut_3 0 rfl rfl)
theorem dX3_cut_70 : decode cX3_cut 70 = .ok (.aload_n 0, 1) := dk_42 (dk_at dksX3_cut_3 3 rfl rfl)
theorem dX3_cut_71 : decode cX3_cut 71 = .ok (.getfield 13, 3) := dk_180 0 13 (dk_at dksX3_cut_3 4 rfl rfl)
theorem dX3_cut_74 : decode cX3_cut 74 = .ok (.iconst 1, 1) := dk_4 (dk_at dksX3_cut_3 7 rfl rfl)
theorem dX3_cut_75 : decode cX3_cut 75 = .ok (.iaload, 1) := dk_46 (dk_at dksX3_cut_3 8 rfl rfl)
theorem dX3_cut_76 : decode cX3_cut 76 = .ok (.aload_n 0, 1) := dk_42 (dk_at dksX3_cut_3 9 rfl rfl)
theorem dX3_cut_77 : decode cX3_cut 77 = .ok (.getfield 17, 3) := dk_180 0 17 (dk_at dksX3_cut_3 10 rfl rfl)
theorem dX3_cut_80 : decode cX3_cut 80 = .ok (.iconst 1, 1) := dk_4 (dk_at dksX3_cut_3 13 rfl rfl)
theorem dX3_cut_81 : decode cX3_cut 81 = .ok (.iaload, 1) := dk_46 (dk_at dksX3_cut_3 14 rfl rfl)
theorem dX3_cut_82 : decode cX3_cut 82 = .ok (.invokestatic 78, 3) := dk_184 0 78 (dk_at dksX3_cut_3 15 rfl rfl)
theorem dX3_cut_85 : decode cX3_cut 85 = .ok (.l2i, 1) := dk_136 (dk_at dksX3_cut_3 18 rfl rfl)
theorem dX3_cut_86 : decode cX3_cut 86 = .ok (.istore 4, 2) := dk_54 4 (dk_at dksX3_cut_3 19 rfl rfl)
theorem dX3_cut_88 : decode cX3_cut 88 = .ok (.iload_n 3, 1) := dk_29 (dk_at dksX3_cut_3 21 rfl rfl)
theorem dX3_cut_89 : decode cX3_cut 89 = .ok (.ifCond .eq 11, 3) := dk_153 0 11 (dk_at dksX3_cut_4 0 rfl rfl)
theorem dX3_cut_92 : decode cX3_cut 92 = .ok (.aload_n 0, 1) := dk_42 (dk_at dksX3_cut_4 3 rfl rfl)
theorem dX3_cut_93 : decode cX3_cut 93 = .ok (.getfield 72, 3) := dk_180 0 72 (dk_at dksX3_cut_4 4 rfl rfl)
theorem dX3_cut_96 : decode cX3_cut 96 = .ok (.iconst 3, 1) := dk_6 (dk_at dksX3_cut_4 7 rfl rfl)
theorem dX3_cut_97 : decode cX3_cut 97 = .ok (.if_icmp .ge 7, 3) := dk_162 0 7 (dk_at dksX3_cut_4 8 rfl rfl)
theorem dX3_cut_100 : decode cX3_cut 100 = .ok (.iconst 1, 1) := dk_4 (dk_at dksX3_cut_4 11 rfl rfl)
theorem dX3_cut_101 : decode cX3_cut 101 = .ok (.goto 19, 3) := dk_167 0 19 (dk_at dksX3_cut_4 12 rfl rfl)
theorem dX3_cut_104 : decode cX3_cut 104 = .ok (.aload_n 0, 1) := dk_42 (dk_at dksX3_cut_4 15 rfl rfl)
theorem dX3_cut_105 : decode cX3_cut 105 = .ok (.getfield 13, 3) := dk_180 0 13 (dk_at dksX3_cut_4 16 rfl rfl)
theorem dX3_cut_108 : decode cX3_cut 108 = .ok (.iconst 2, 1) := dk_5 (dk_at dksX3_cut_4 19 rfl rfl)
theorem dX3_cut_109 : decode cX3_cut 109 = .ok (.iaload, 1) := dk_46 (dk_at dksX3_cut_4 20 rfl rfl)
theorem dX3_cut_110 : decode cX3_cut 110 = .ok (.aload_n 0, 1) := dk_42 (dk_at dksX3_cut_4 21 rfl rfl)
theorem dX3_cut_111 : decode cX3_cut 111 = .ok (.getfield 17, 3) := dk_180 0 17 (dk_at dksX3_cut_5 0 rfl rfl)
theorem dX3_cut_114 : decode cX3_cut 114 = .ok (.iconst 2, 1) := dk_5 (dk_at dksX3_cut_5 3 rfl rfl)
theorem dX3_cut_115 : decode cX3_cut 115 = .ok (.iaload, 1) := dk_46 (dk_at dksX3_cut_5 4 rfl rfl)
theorem dX3_cut_116 : decode cX3_cut 116 = .ok (.invokestatic 78, 3) := dk_184 0 78 (dk_at dksX3_cut_5 5 rfl rfl)
theorem dX3_cut_119 : decode cX3_cut 119 = .ok (.l2i, 1) := dk_136 (dk_at dksX3_cut_5 8 rfl rfl)
theorem dX3_cut_120 : decode cX3_cut 120 = .ok (.istore 5, 2) := dk_54 5 (dk_at dksX3_cut_5 9 rfl rfl)
theorem dX3_cut_122 : decode cX3_cut 122 = .ok (.iconst 0, 1) := dk_3 (dk_at dksX3_cut_5 11 rfl rfl)
theorem dX3_cut_123 : decode cX3_cut 123 = .ok (.istore 6, 2) := dk_54 6 (dk_at dksX3_cut_5 12 rfl rfl)
theorem dX3_cut_125 : decode cX3_cut 125 = .ok (.iload 6, 2) := dk_21 6 (dk_at dksX3_cut_5 14 rfl rfl)
theorem dX3_cut_127 : decode cX3_cut 127 = .ok (.iload_n 3, 1) := dk_29 (dk_at dksX3_cut_5 16 rfl rfl)
theorem dX3_cut_128 : decode cX3_cut 128 = .ok (.if_icmp .ge 75, 3) := dk_162 0 75 (dk_at dksX3_cut_5 17 rfl rfl)
theorem dX3_cut_131 : decode cX3_cut 131 = .ok (.aload_n 0, 1) := dk_42 (dk_at dksX3_cut_5 20 rfl rfl)
theorem dX3_cut_132 : decode cX3_cut 132 = .ok (.iload_n 1, 1) := dk_27 (dk_at dksX3_cut_5 21 rfl rfl)
theorem dX3_cut_133 : decode cX3_cut 133 = .ok (.aload_n 0, 1) := dk_42 (dk_at dksX3_cut_5 22 rfl rfl)
theorem dX3_cut_134 : decode cX3_cut 134 = .ok (.getfield 13, 3) := dk_180 0 13 (dk_at dksX3_cut_6 0 rfl rfl)
theorem dX3_cut_137 : decode cX3_cut 137 = .ok (.iconst 0, 1) := dk_3 (dk_at dksX3_cut_6 3 rfl rfl)
theorem dX3_cut_138 : decode cX3_cut 138 = .ok (.iaload, 1) := dk_46 (dk_at dksX3_cut_6 4 rfl rfl)
theorem dX3_cut_139 : decode cX3_cut 139 = .ok (.iload 6, 2) := dk_21 6 (dk_at dksX3_cut_6 5 rfl rfl)
theorem dX3_cut_141 : decode cX3_cut 141 = .ok (.iload 5, 2) := dk_21 5 (dk_at dksX3_cut_6 7 rfl rfl)
theorem dX3_cut_143 : decode cX3_cut 143 = .ok (.idiv, 1) := dk_108 (dk_at dksX3_cut_6 9 rfl rfl)
theorem dX3_cut_144 : decode cX3_cut 144 = .ok (.iload 4, 2) := dk_21 4 (dk_at dksX3_cut_6 10 rfl rfl)
theorem dX3_cut_146 : decode cX3_cut 146 = .ok (.idiv, 1) := dk_108 (dk_at dksX3_cut_6 12 rfl rfl)
theorem dX3_cut_147 : decode cX3_cut 147 = .ok (.invokestatic 145, 3) := dk_184 0 145 (dk_at dksX3_cut_6 13 rfl rfl)
theorem dX3_cut_150 : decode cX3_cut 150 = .ok (.aload_n 0, 1) := dk_42 (dk_at dksX3_cut_6 16 rfl rfl)
theorem dX3_cut_151 : decode cX3_cut 151 = .ok (.getfield 13, 3) := dk_180 0 13 (dk_at dksX3_cut_6 17 rfl rfl)
theorem dX3_cut_154 : decode cX3_cut 154 = .ok (.iconst 1, 1) := dk_4 (dk_at dksX3_cut_6 20 rfl rfl)
theorem dX3_cut_155 : decode cX3_cut 155 = .ok (.iaload, 1) := dk_46 (dk_at dksX3_cut_6 21 rfl rfl)
theorem dX3_cut_156 : decode cX3_cut 156 = .ok (.iload 6, 2) := dk_21 6 (dk_at dksX3_cut_6 22 rfl rfl)
theorem dX3_cut_158 : decode cX3_cut 158 = .ok (.iload 5, 2) := dk_21 5 (dk_at dksX3_cut_7 0 rfl rfl)
theorem dX3_cut_160 : decode cX3_cut 160 = .ok (.idiv, 1) := dk_108 (dk_at dksX3_cut_7 2 rfl rfl)
theorem dX3_cut_161 : decode cX3_cut 161 = .ok (.iload 4, 2) := dk_21 4 (dk_at dksX3_cut_7 3 rfl rfl)
theorem dX3_cut_163 : decode cX3_cut 163 = .ok (.irem, 1) := dk_112 (dk_at dksX3_cut_7 5 rfl rfl)
theorem dX3_cut_164 : decode cX3_cut 164 = .ok (.invokestatic 145, 3) := dk_184 0 145 (dk_at dksX3_cut_7 6 rfl rfl)
theorem dX3_cut_167 : decode cX3_cut 167 = .ok (.aload_n 0, 1) := dk_42 (dk_at dksX3_cut_7 9 rfl rfl)
theorem dX3_cut_168 : decode cX3_cut 168 = .ok (.getfield 13, 3) := dk_180 0 13 (dk_at dksX3_cut_7 10 rfl rfl)
theorem dX3_cut_171 : decode cX3_cut 171 = .ok (.iconst 2, 1) := dk_5 (dk_at dksX3_cut_7 13 rfl rfl)
theorem dX3_cut_172 : decode cX3_cut 172 = .ok (.iaload, 1) := dk_46 (dk_at dksX3_cut_7 14 rfl rfl)
theorem dX3_cut_173 : decode cX3_cut 173 = .ok (.iload 6, 2) := dk_21 6 (dk_at dksX3_cut_7 15 rfl rfl)
theorem dX3_cut_175 : decode cX3_cut 175 = .ok (.iload 5, 2) := dk_21 5 (dk_at dksX3_cut_7 17 rfl rfl)
theorem dX3_cut_177 : decode cX3_cut 177 = .ok (.irem, 1) := dk_112 (dk_at dksX3_cut_7 19 rfl rfl)
theorem dX3_cut_178 : decode cX3_cut 178 = .ok (.invokestatic 145, 3) := dk_184 0 145 (dk_at dksX3_cut_7 20 rfl rfl)
theorem dX3_cut_181 : decode cX3_cut 181 = .ok (.invokevirtual 148, 3) := dk_182 0 148 (dk_at dksX3_cut_8 0 rfl rfl)
theorem dX3_cut_184 : decode cX3_cut 184 = .ok (.iconst (-1), 1) := dk_2 (dk_at dksX3_cut_8 3 rfl rfl)
theorem dX3_cut_185 : decode cX3_cut 185 = .ok (.if_icmp .ne 12, 3) := dk_160 0 12 (dk_at dksX3_cut_8 4 rfl rfl)
theorem dX3_cut_188 : decode cX3_cut 188 = .ok (.aload_n 0, 1) := dk_42 (dk_at dksX3_cut_8 7 rfl rfl)
theorem dX3_cut_189 : decode cX3_cut 189 = .ok (.aload_n 0, 1) := dk_42 (dk_at dksX3_cut_8 8 rfl rfl)
theorem dX3_cut_190 : decode cX3_cut 190 = .ok (.getfield 142, 3) := dk_180 0 142 (dk_at dksX3_cut_8 9 rfl rfl)
theorem dX3_cut_193 : decode cX3_cut 193 = .ok (.invokevirtual 152, 3) := dk_182 0 152 (dk_at dksX3_cut_8 12 rfl rfl)
theorem dX3_cut_196 : decode cX3_cut 196 = .ok (.ireturn, 1) := dk_172 (dk_at dksX3_cut_8 15 rfl rfl)
theorem dX3_cut_197 : decode cX3_cut 197 = .ok (.iinc 6 1, 3) := dk_132 6 1 (dk_at dksX3_cut_8 16 rfl rfl)
theorem dX3_cut_200 : decode cX3_cut 200 = .ok (.goto (-75), 3) := dk_167 255 181 (dk_at dksX3_cut_8 19 rfl rfl)
theorem dX3_cut_203 : decode cX3_cut 203 = .ok (.aload_n 0, 1) := dk_42 (dk_at dksX3_cut_8 22 rfl rfl)
theorem dX3_cut_204 : decode cX3_cut 204 = .ok (.getfield 98, 3) := dk_180 0 98 (dk_at dksX3_cut_9 0 rfl rfl)
theorem dX3_cut_207 : decode cX3_cut 207 = .ok (.bipush 24, 2) := dk_16 24 (dk_at dksX3_cut_9 3 rfl rfl)
theorem dX3_cut_209 : decode cX3_cut 209 = .ok (.if_icmp .ne 10, 3) := dk_160 0 10 (dk_at dksX3_cut_9 5 rfl rfl)
theorem dX3_cut_212 : decode cX3_cut 212 = .ok (.aload_n 0, 1) := dk_42 (dk_at dksX3_cut_9 8 rfl rfl)
theorem dX3_cut_213 : decode cX3_cut 213 = .ok (.bipush 8, 2) := dk_16 8 (dk_at dksX3_cut_9 9 rfl rfl)
theorem dX3_cut_215 : decode cX3_cut 215 = .ok (.invokevirtual 68, 3) := dk_182 0 68 (dk_at dksX3_cut_9 11 rfl rfl)
theorem dX3_cut_218 : decode cX3_cut 218 = .ok (.ireturn, 1) := dk_172 (dk_at dksX3_cut_9 14 rfl rfl)
theorem dX3_cut_219 : decode cX3_cut 219 = .ok (.aload_n 0, 1) := dk_42 (dk_at dksX3_cut_9 15 rfl rfl)
theorem dX3_cut_220 : decode cX3_cut 220 = .ok (.aload_n 0, 1) := dk_42 (dk_at dksX3_cut_9 16 rfl rfl)
theorem dX3_cut_221 : decode cX3_cut 221 = .ok (.getfield 20, 3) := dk_180 0 20 (dk_at dksX3_cut_9 17 rfl rfl)
theorem dX3_cut_224 : decode cX3_cut 224 = .ok (.iload_n 1, 1) := dk_27 (dk_at dksX3_cut_9 20 rfl rfl)
theorem dX3_cut_225 : decode cX3_cut 225 = .ok (.iaload, 1) := dk_46 (dk_at dksX3_cut_9 21 rfl rfl)
theorem dX3_cut_226 : decode cX3_cut 226 = .ok (.iconst (-1), 1) := dk_2 (dk_at dksX3_cut_9 22 rfl rfl)
theorem dX3_cut_227 : decode cX3_cut 227 = .ok (.invokevirtual 121, 3) := dk_182 0 121 (dk_at dksX3_cut_10 0 rfl rfl)
theorem dX3_cut_230 : decode cX3_cut 230 = .ok (.istore 6, 2) := dk_54 6 (dk_at dksX3_cut_10 3 rfl rfl)
theorem dX3_cut_232 : decode cX3_cut 232 = .ok (.aload_n 0, 1) := dk_42 (dk_at dksX3_cut_10 5 rfl rfl)
theorem dX3_cut_233 : decode cX3_cut 233 = .ok (.getfield 32, 3) := dk_180 0 32 (dk_at dksX3_cut_10 6 rfl rfl)
theorem dX3_cut_236 : decode cX3_cut 236 = .ok (.iload 6, 2) := dk_21 6 (dk_at dksX3_cut_10 9 rfl rfl)
theorem dX3_cut_238 : decode cX3_cut 238 = .ok (.aload_n 0, 1) := dk_42 (dk_at dksX3_cut_10 11 rfl rfl)
theorem dX3_cut_239 : decode cX3_cut 239 = .ok (.iload_n 3, 1) := dk_29 (dk_at dksX3_cut_10 12 rfl rfl)
theorem dX3_cut_240 : decode cX3_cut 240 = .ok (.invokevirtual 111, 3) := dk_182 0 111 (dk_at dksX3_cut_10 13 rfl rfl)
theorem dX3_cut_243 : decode cX3_cut 243 = .ok (.iastore, 1) := dk_79 (dk_at dksX3_cut_10 16 rfl rfl)
theorem dX3_cut_244 : decode cX3_cut 244 = .ok (.iconst 0, 1) := dk_3 (dk_at dksX3_cut_10 17 rfl rfl)
theorem dX3_cut_245 : decode cX3_cut 245 = .ok (.istore 7, 2) := dk_54 7 (dk_at dksX3_cut_10 18 rfl rfl)
theorem dX3_cut_247 : decode cX3_cut 247 = .ok (.iload 7, 2) := dk_21 7 (dk_at dksX3_cut_10 20 rfl rfl)
theorem dX3_cut_249 : decode cX3_cut 249 = .ok (.iload_n 3, 1) := dk_29 (dk_at dksX3_cut_10 22 rfl rfl)
theorem dX3_cut_250 : decode cX3_cut 250 = .ok (.if_icmp .ge 97, 3) := dk_162 0 97 (dk_at dksX3_cut_11 0 rfl rfl)
theorem dX3_cut_253 : decode cX3_cut 253 = .ok (.aload_n 0, 1) := dk_42 (dk_at dksX3_cut_11 3 rfl rfl)
theorem dX3_cut_254 : decode cX3_cut 254 = .ok (.iload_n 1, 1) := dk_27 (dk_at dksX3_cut_11 4 rfl rfl)
theorem dX3_cut_255 : decode cX3_cut 255 = .ok (.aload_n 0, 1) := dk_42 (dk_at dksX3_cut_11 5 rfl rfl)
theorem dX3_cut_256 : decode cX3_cut 256 = .ok (.getfield 13, 3) := dk_180 0 13 (dk_at dksX3_cut_11 6 rfl rfl)
theorem dX3_cut_259 : decode cX3_cut 259 = .ok (.iconst 0, 1) := dk_3 (dk_at dksX3_cut_11 9 rfl rfl)
theorem dX3_cut_260 : decode cX3_cut 260 = .ok (.iaload, 1) := dk_46 (dk_at dksX3_cut_11 10 rfl rfl)
theorem dX3_cut_261 : decode cX3_cut 261 = .ok (.iload 7, 2) := dk_21 7 (dk_at dksX3_cut_11 11 rfl rfl)
theorem dX3_cut_263 : decode cX3_cut 263 = .ok (.iload 5, 2) := dk_21 5 (dk_at dksX3_cut_11 13 rfl rfl)
theorem dX3_cut_265 : decode cX3_cut 265 = .ok (.idiv, 1) := dk_108 (dk_at dksX3_cut_11 15 rfl rfl)
theorem dX3_cut_266 : decode cX3_cut 266 = .ok (.iload 4, 2) := dk_21 4 (dk_at dksX3_cut_11 16 rfl rfl)
theorem dX3_cut_268 : decode cX3_cut 268 = .ok (.idiv, 1) := dk_108 (dk_at dksX3_cut_11 18 rfl rfl)
theorem dX3_cut_269 : decode cX3_cut 269 = .ok (.invokestatic 145, 3) := dk_184 0 145 (dk_at dksX3_cut_11 19 rfl rfl)
theorem dX3_cut_272 : decode cX3_cut 272 = .ok (.aload_n 0, 1) := dk_42 (dk_at dksX3_cut_11 22 rfl rfl)
theorem dX3_cut_273 : decode cX3_cut 273 = .ok (.getfield 13, 3) := dk_180 0 13 (dk_at dksX3_cut_12 0 rfl rfl)
theorem dX3_cut_276 : decode cX3_cut 276 = .ok (.iconst 1, 1) := dk_4 (dk_at dksX3_cut_12 3 rfl rfl)
theorem dX3_cut_277 : decode cX3_cut 277 = .ok (.iaload, 1) := dk_46 (dk_at dksX3_cut_12 4 rfl rfl)
theorem dX3_cut_278 : decode cX3_cut 278 = .ok (.iload 7, 2) := dk_21 7 (dk_at dksX3_cut_12 5 rfl rfl)
theorem dX3_cut_280 : decode cX3_cut 280 = .ok (.iload 5, 2) := dk_21 5 (dk_at dksX3_cut_12 7 rfl rfl)
theorem dX3_cut_282 : decode cX3_cut 282 = .ok (.idiv, 1) := dk_108 (dk_at dksX3_cut_12 9 rfl rfl)
theorem dX3_cut_283 : decode cX3_cut 283 = .ok (.iload 4, 2) := dk_21 4 (dk_at dksX3_cut_12 10 rfl rfl)
theorem dX3_cut_285 : decode cX3_cut 285 = .ok (.irem, 1) := dk_112 (dk_at dksX3_cut_12 12 rfl rfl)
theorem dX3_cut_286 : decode cX3_cut 286 = .ok (.invokestatic 145, 3) := dk_184 0 145 (dk_at dksX3_cut_12 13 rfl rfl)
theorem dX3_cut_289 : decode cX3_cut 289 = .ok (.aload_n 0, 1) := dk_42 (dk_at dksX3_cut_12 16 rfl rfl)
theorem dX3_cut_290 : decode cX3_cut 290 = .ok (.getfield 13, 3) := dk_180 0 13 (dk_at dksX3_cut_12 17 rfl rfl)
theorem dX3_cut_293 : decode cX3_cut 293 = .ok (.iconst 2, 1) := dk_5 (dk_at dksX3_cut_12 20 rfl rfl)
theorem dX3_cut_294 : decode cX3_cut 294 = .ok (.iaload, 1) := dk_46 (dk_at dksX3_cut_12 21 rfl rfl)
theorem dX3_cut_295 : decode cX3_cut 295 = .ok (.iload 7, 2) := dk_21 7 (dk_at dksX3_cut_12 22 rfl rfl)
theorem dX3_cut_297 : decode cX3_cut 297 = .ok (.iload 5, 2) := dk_21 5 (dk_at dksX3_cut_13 0 rfl rfl)
theorem dX3_cut_299 : decode cX3_cut 299 = .ok (.irem, 1) := dk_112 (dk_at dksX3_cut_13 2 rfl rfl)
theorem dX3_cut_300 : decode cX3_cut 300 = .ok (.invokestatic 145, 3) := dk_184 0 145 (dk_at dksX3_cut_13 3 rfl rfl)
theorem dX3_cut_303 : decode cX3_cut 303 = .ok (.invokevirtual 148, 3) := dk_182 0 148 (dk_at dksX3_cut_13 6 rfl rfl)
theorem dX3_cut_306 : decode cX3_cut 306 = .ok (.istore 8, 2) := dk_54 8 (dk_at dksX3_cut_13 9 rfl rfl)
theorem dX3_cut_308 : decode cX3_cut 308 = .ok (.aload_n 0, 1) := dk_42 (dk_at dksX3_cut_13 11 rfl rfl)
theorem dX3_cut_309 : decode cX3_cut 309 = .ok (.aload_n 0, 1) := dk_42 (dk_at dksX3_cut_13 12 rfl rfl)
theorem dX3_cut_310 : decode cX3_cut 310 = .ok (.getfield 35, 3) := dk_180 0 35 (dk_at dksX3_cut_13 13 rfl rfl)
theorem dX3_cut_313 : decode cX3_cut 313 = .ok (.aload_n 0, 1) := dk_42 (dk_at dksX3_cut_13 16 rfl rfl)
theorem dX3_cut_314 : decode cX3_cut 314 = .ok (.getfield 32, 3) := dk_180 0 32 (dk_at dksX3_cut_13 17 rfl rfl)
theorem dX3_cut_317 : decode cX3_cut 317 = .ok (.iload_n 1, 1) := dk_27 (dk_at dksX3_cut_13 20 rfl rfl)
theorem dX3_cut_318 : decode cX3_cut 318 = .ok (.iaload, 1) := dk_46 (dk_at dksX3_cut_13 21 rfl rfl)
theorem dX3_cut_319 : decode cX3_cut 319 = .ok (.iaload, 1) := dk_46 (dk_at dksX3_cut_13 22 rfl rfl)
theorem dX3_cut_320 : decode cX3_cut 320 = .ok (.iload 8, 2) := dk_21 8 (dk_at dksX3_cut_14 0 rfl rfl)
theorem dX3_cut_322 : decode cX3_cut 322 = .ok (.iadd, 1) := dk_96 (dk_at dksX3_cut_14 2 rfl rfl)
theorem dX3_cut_323 : decode cX3_cut 323 = .ok (.aload_n 0, 1) := dk_42 (dk_at dksX3_cut_14 3 rfl rfl)
theorem dX3_cut_324 : decode cX3_cut 324 = .ok (.getfield 35, 3) := dk_180 0 35 (dk_at dksX3_cut_14 4 rfl rfl)
theorem dX3_cut_327 : decode cX3_cut 327 = .ok (.aload_n 0, 1) := dk_42 (dk_at dksX3_cut_14 7 rfl rfl)
theorem dX3_cut_328 : decode cX3_cut 328 = .ok (.getfield 32, 3) := dk_180 0 32 (dk_at dksX3_cut_14 8 rfl rfl)
theorem dX3_cut_331 : decode cX3_cut 331 = .ok (.iload 6, 2) := dk_21 6 (dk_at dksX3_cut_14 11 rfl rfl)
theorem dX3_cut_333 : decode cX3_cut 333 = .ok (.iaload, 1) := dk_46 (dk_at dksX3_cut_14 13 rfl rfl)
theorem dX3_cut_334 : decode cX3_cut 334 = .ok (.iaload, 1) := dk_46 (dk_at dksX3_cut_14 14 rfl rfl)
theorem dX3_cut_335 : decode cX3_cut 335 = .ok (.iload 7, 2) := dk_21 7 (dk_at dksX3_cut_14 15 rfl rfl)
theorem dX3_cut_337 : decode cX3_cut 337 = .ok (.iadd, 1) := dk_96 (dk_at dksX3_cut_14 17 rfl rfl)
theorem dX3_cut_338 : decode cX3_cut 338 = .ok (.invokevirtual 138, 3) := dk_182 0 138 (dk_at dksX3_cut_14 18 rfl rfl)
theorem dX3_cut_341 : decode cX3_cut 341 = .ok (.iinc 7 1, 3) := dk_132 7 1 (dk_at dksX3_cut_14 21 rfl rfl)
theorem dX3_cut_344 : decode cX3_cut 344 = .ok (.goto (-97), 3) := dk_167 255 159 (dk_at dksX3_cut_15 0 rfl rfl)
theorem dX3_cut_347 : decode cX3_cut 347 = .ok (.aload_n 0, 1) := dk_42 (dk_at dksX3_cut_15 3 rfl rfl)
theorem dX3_cut_348 : decode cX3_cut 348 = .ok (.iconst 0, 1) := dk_3 (dk_at dksX3_cut_15 4 rfl rfl)
theorem dX3_cut_349 : decode cX3_cut 349 = .ok (.putfield 72, 3) := dk_181 0 72 (dk_at dksX3_cut_15 5 rfl rfl)
theorem dX3_cut_352 : decode cX3_cut 352 = .ok (.aload_n 0, 1) := dk_42 (dk_at dksX3_cut_15 8 rfl rfl)
theorem dX3_cut_353 : decode cX3_cut 353 = .ok (.iload 6, 2) := dk_21 6 (dk_at dksX3_cut_15 9 rfl rfl)
theorem dX3_cut_355 : decode cX3_cut 355 = .ok (.invokevirtual 75, 3) := dk_182 0 75 (dk_at dksX3_cut_15 11 rfl rfl)
theorem dX3_cut_358 : decode cX3_cut 358 = .ok (.ireturn, 1) := dk_172 (dk_at dksX3_cut_15 14 rfl rfl)
abbrev cX3_index : ByteArray := prog_6_method_26_code
def yX3_index : MethodName := ⟨RX3, "index", "(II)I"⟩
def dkwX3_index_0 : List UInt8 := [26, 27, 96, 172]
abbrev dktX3_index_0 : List UInt8 := dkwX3_index_0 ++ []
theorem dksX3_index_0 : cX3_index.data.toList.drop 0 = dktX3_index_0 := by decide +kernel
theorem dX3_index_0 : decode cX3_index 0 = .ok (.iload_n 0, 1) := dk_26 (dk_at dksX3_index_0 0 rfl rfl)
theorem dX3_index_1 : decode cX3_index 1 = .ok (.iload_n 1, 1) := dk_27 (dk_at dksX3_index_0 1 rfl rfl)
theorem dX3_index_2 : decode cX3_index 2 = .ok (.iadd, 1) := dk_96 (dk_at dksX3_index_0 2 rfl rfl)
theorem dX3_index_3 : decode cX3_index 3 = .ok (.ireturn, 1) := dk_172 (dk_at dksX3_index_0 3 rfl rfl)
abbrev cX3_placeOf : ByteArray := prog_6_method_25_code
def yX3_placeOf : MethodName := ⟨RX3, "placeOf", "(IIII)I"⟩
def dkwX3_placeOf_5 : List UInt8 := [136, 172]
abbrev dktX3_placeOf_5 : List UInt8 := dkwX3_placeOf_5 ++ []
def dkwX3_placeOf_4 : List UInt8 := [42, 180, 0, 26, 6, 27, 104, 21, 7, 96, 46, 133, 101, 97, 55, 5, 132, 7, 1, 167, 255, 149, 22, 5]
abbrev dktX3_placeOf_4 : List UInt8 := dkwX3_placeOf_4 ++ dktX3_placeOf_5
def dkwX3_placeOf_3 : List UInt8 := [154, 0, 11, 42, 21, 7, 181, 0, 142, 2, 172, 22, 5, 42, 27, 21, 7, 182, 0, 108, 105, 21, 8, 133]
abbrev dktX3_placeOf_3 : List UInt8 := dkwX3_placeOf_3 ++ dktX3_placeOf_4
def dkwX3_placeOf_2 : List UInt8 := [6, 27, 104, 21, 7, 96, 46, 133, 42, 180, 0, 29, 6, 27, 104, 21, 7, 96, 46, 133, 184, 0, 101]
abbrev dktX3_placeOf_2 : List UInt8 := dkwX3_placeOf_2 ++ dktX3_placeOf_3
def dkwX3_placeOf_1 : List UInt8 := [167, 0, 15, 21, 7, 4, 160, 0, 7, 29, 167, 0, 5, 21, 4, 54, 8, 21, 8, 133, 42, 180, 0, 26]
abbrev dktX3_placeOf_1 : List UInt8 := dkwX3_placeOf_1 ++ dktX3_placeOf_2
def dkwX3_placeOf_0 : List UInt8 := [9, 55, 5, 3, 54, 7, 21, 7, 42, 180, 0, 23, 27, 46, 162, 0, 102, 21, 7, 154, 0, 7, 28]
abbrev dktX3_placeOf_0 : List UInt8 := dkwX3_placeOf_0 ++ dktX3_placeOf_1
theorem dksX3_placeOf_0 : cX3_placeOf.data.toList.drop 0 = dktX3_placeOf_0 := by decide +kernel
theorem dksX3_placeOf_1 : cX3_placeOf.data.toList.drop 23 = dktX3_placeOf_1 := dk_seg dksX3_placeOf_0 23 rfl rfl
theorem dksX3_placeOf_2 : cX3_placeOf.data.toList.drop 47 = dktX3_placeOf_2 := dk_seg dksX3_placeOf_1 24 rfl rfl
theorem dksX3_placeOf_3 : cX3_placeOf.data.toList.drop 70 = dktX3_placeOf_3 := dk_seg dksX3_placeOf_2 23 rfl rfl
theorem dksX3_placeOf_4 : cX3_placeOf.data.toList.drop 94 = dktX3_placeOf_4 := dk_seg dksX3_placeOf_3 24 rfl rfl
theorem dksX3_placeOf_5 : cX3_placeOf.data.toList.drop 118 = dktX3_placeOf_5 := dk_seg dksX3_placeOf_4 24 rfl rfl
theorem dX3_placeOf_0 : decode cX3_placeOf 0 = .ok (.lconst 0, 1) := dk_9 (dk_at dksX3_placeOf_0 0 rfl rfl)
theorem dX3_placeOf_1 : decode cX3_placeOf 1 = .ok (.lstore 5, 2) := dk_55 5 (dk_at dksX3_placeOf_0 1 rfl rfl)
theorem dX3_placeOf_3 : decode cX3_placeOf 3 = .ok (.iconst 0, 1) := dk_3 (dk_at dksX3_placeOf_0 3 rfl rfl)
theorem dX3_placeOf_4 : decode cX3_placeOf 4 = .ok (.istore 7, 2) := dk_54 7 (dk_at dksX3_placeOf_0 4 rfl rfl)
theorem dX3_placeOf_6 : decode cX3_placeOf 6 = .ok (.iload 7, 2) := dk_21 7 (dk_at dksX3_placeOf_0 6 rfl rfl)
theorem dX3_placeOf_8 : decode cX3_placeOf 8 = .ok (.aload_n 0, 1) := dk_42 (dk_at dksX3_placeOf_0 8 rfl rfl)
theorem dX3_placeOf_9 : decode cX3_placeOf 9 = .ok (.getfield 23, 3) := dk_180 0 23 (dk_at dksX3_placeOf_0 9 rfl rfl)
theorem dX3_placeOf_12 : decode cX3_placeOf 12 = .ok (.iload_n 1, 1) := dk_27 (dk_at dksX3_placeOf_0 12 rfl rfl)
theorem dX3_placeOf_13 : decode cX3_placeOf 13 = .ok (.iaload, 1) := dk_46 (dk_at dksX3_placeOf_0 13 rfl rfl)
theorem dX3_placeOf_14 : decode cX3_placeOf 14 = .ok (.if_icmp .ge 102, 3) := dk_162 0 102 (dk_at dksX3_placeOf_0 14 rfl rfl)
theorem dX3_placeOf_17 : decode cX3_placeOf 17 = .ok (.iload 7, 2) := dk_21 7 (dk_at dksX3_placeOf_0 17 rfl rfl)
theorem dX3_placeOf_19 : decode cX3_placeOf 19 = .ok (.ifCond .ne 7, 3) := dk_154 0 7 (dk_at dksX3_placeOf_0 19 rfl rfl)
theorem dX3_placeOf_22 : decode cX3_placeOf 22 = .ok (.iload_n 2, 1) := dk_28 (dk_at dksX3_placeOf_0 22 rfl rfl)
theorem dX3_placeOf_23 : decode cX3_placeOf 23 = .ok (.goto 15, 3) := dk_167 0 15 (dk_at dksX3_placeOf_1 0 rfl rfl)
theorem dX3_placeOf_26 : decode cX3_placeOf 26 = .ok (.iload 7, 2) := dk_21 7 (dk_at dksX3_placeOf_1 3 rfl rfl)
theorem dX3_placeOf_28 : decode cX3_placeOf 28 = .ok (.iconst 1, 1) := dk_4 (dk_at dksX3_placeOf_1 5 rfl rfl)
theorem dX3_placeOf_29 : decode cX3_placeOf 29 = .ok (.if_icmp .ne 7, 3) := dk_160 0 7 (dk_at dksX3_placeOf_1 6 rfl rfl)
theorem dX3_placeOf_32 : decode cX3_placeOf 32 = .ok (.iload_n 3, 1) := dk_29 (dk_at dksX3_placeOf_1 9 rfl rfl)
theorem dX3_placeOf_33 : decode cX3_placeOf 33 = .ok (.goto 5, 3) := dk_167 0 5 (dk_at dksX3_placeOf_1 10 rfl rfl)
theorem dX3_placeOf_36 : decode cX3_placeOf 36 = .ok (.iload 4, 2) := dk_21 4 (dk_at dksX3_placeOf_1 13 rfl rfl)
theorem dX3_placeOf_38 : decode cX3_placeOf 38 = .ok (.istore 8, 2) := dk_54 8 (dk_at dksX3_placeOf_1 15 rfl rfl)
theorem dX3_placeOf_40 : decode cX3_placeOf 40 = .ok (.iload 8, 2) := dk_21 8 (dk_at dksX3_placeOf_1 17 rfl rfl)
theorem dX3_placeOf_42 : decode cX3_placeOf 42 = .ok (.i2l, 1) := dk_133 (dk_at dksX3_placeOf_1 19 rfl rfl)
theorem dX3_placeOf_43 : decode cX3_placeOf 43 = .ok (.aload_n 0, 1) := dk_42 (dk_at dksX3_placeOf_1 20 rfl rfl)
theorem dX3_placeOf_44 : decode cX3_placeOf 44 = .ok (.getfield 26, 3) := dk_180 0 26 (dk_at dksX3_placeOf_1 21 rfl rfl)
theorem dX3_placeOf_47 : decode cX3_placeOf 47 = .ok (.iconst 3, 1) := dk_6 (dk_at dksX3_placeOf_2 0 rfl rfl)
theorem dX3_placeOf_48 : decode cX3_placeOf 48 = .ok (.iload_n 1, 1) := dk_27 (dk_at dksX3_placeOf_2 1 rfl rfl)
theorem dX3_placeOf_49 : decode cX3_placeOf 49 = .ok (.imul, 1) := dk_104 (dk_at dksX3_placeOf_2 2 rfl rfl)
theorem dX3_placeOf_50 : decode cX3_placeOf 50 = .ok (.iload 7, 2) := dk_21 7 (dk_at dksX3_placeOf_2 3 rfl rfl)
theorem dX3_placeOf_52 : decode cX3_placeOf 52 = .ok (.iadd, 1) := dk_96 (dk_at dksX3_placeOf_2 5 rfl rfl)
theorem dX3_placeOf_53 : decode cX3_placeOf 53 = .ok (.iaload, 1) := dk_46 (dk_at dksX3_placeOf_2 6 rfl rfl)
theorem dX3_placeOf_54 : decode cX3_placeOf 54 = .ok (.i2l, 1) := dk_133 (dk_at dksX3_placeOf_2 7 rfl rfl)
theorem dX3_placeOf_55 : decode cX3_placeOf 55 = .ok (.aload_n 0, 1) := dk_42 (dk_at dksX3_placeOf_2 8 rfl rfl)
theorem dX3_placeOf_56 : decode cX3_placeOf 56 = .ok (.getfield 29, 3) := dk_180 0 29 (dk_at dksX3_placeOf_2 9 rfl rfl)
theorem dX3_placeOf_59 : decode cX3_placeOf 59 = .ok (.iconst 3, 1) := dk_6 (dk_at dksX3_placeOf_2 12 rfl rfl)
theorem dX3_placeOf_60 : decode cX3_placeOf 60 = .ok (.iload_n 1, 1) := dk_27 (dk_at dksX3_placeOf_2 13 rfl rfl)
theorem dX3_placeOf_61 : decode cX3_placeOf 61 = .ok (.imul, 1) := dk_104 (dk_at dksX3_placeOf_2 14 rfl rfl)
theorem dX3_placeOf_62 : decode cX3_placeOf 62 = .ok (.iload 7, 2) := dk_21 7 (dk_at dksX3_placeOf_2 15 rfl rfl)
theorem dX3_placeOf_64 : decode cX3_placeOf 64 = .ok (.iadd, 1) := dk_96 (dk_at dksX3_placeOf_2 17 rfl rfl)
theorem dX3_placeOf_65 : decode cX3_placeOf 65 = .ok (.iaload, 1) := dk_46 (dk_at dksX3_placeOf_2 18 rfl rfl)
theorem dX3_placeOf_66 : decode cX3_placeOf 66 = .ok (.i2l, 1) := dk_133 (dk_at dksX3_placeOf_2 19 rfl rfl)
theorem dX3_placeOf_67 : decode cX3_placeOf 67 = .ok (.invokestatic 101, 3) := dk_184 0 101 (dk_at dksX3_placeOf_2 20 rfl rfl)
theorem dX3_placeOf_70 : decode cX3_placeOf 70 = .ok (.ifCond .ne 11, 3) := dk_154 0 11 (dk_at dksX3_placeOf_3 0 rfl rfl)
theorem dX3_placeOf_73 : decode cX3_placeOf 73 = .ok (.aload_n 0, 1) := dk_42 (dk_at dksX3_placeOf_3 3 rfl rfl)
theorem dX3_placeOf_74 : decode cX3_placeOf 74 = .ok (.iload 7, 2) := dk_21 7 (dk_at dksX3_placeOf_3 4 rfl rfl)
theorem dX3_placeOf_76 : decode cX3_placeOf 76 = .ok (.putfield 142, 3) := dk_181 0 142 (dk_at dksX3_placeOf_3 6 rfl rfl)
theorem dX3_placeOf_79 : decode cX3_placeOf 79 = .ok (.iconst (-1), 1) := dk_2 (dk_at dksX3_placeOf_3 9 rfl rfl)
theorem dX3_placeOf_80 : decode cX3_placeOf 80 = .ok (.ireturn, 1) := dk_172 (dk_at dksX3_placeOf_3 10 rfl rfl)
theorem dX3_placeOf_81 : decode cX3_placeOf 81 = .ok (.lload 5, 2) := dk_22 5 (dk_at dksX3_placeOf_3 11 rfl rfl)
theorem dX3_placeOf_83 : decode cX3_placeOf 83 = .ok (.aload_n 0, 1) := dk_42 (dk_at dksX3_placeOf_3 13 rfl rfl)
theorem dX3_placeOf_84 : decode cX3_placeOf 84 = .ok (.iload_n 1, 1) := dk_27 (dk_at dksX3_placeOf_3 14 rfl rfl)
theorem dX3_placeOf_85 : decode cX3_placeOf 85 = .ok (.iload 7, 2) := dk_21 7 (dk_at dksX3_placeOf_3 15 rfl rfl)
theorem dX3_placeOf_87 : decode cX3_placeOf 87 = .ok (.invokevirtual 108, 3) := dk_182 0 108 (dk_at dksX3_placeOf_3 17 rfl rfl)
theorem dX3_placeOf_90 : decode cX3_placeOf 90 = .ok (.lmul, 1) := dk_105 (dk_at dksX3_placeOf_3 20 rfl rfl)
theorem dX3_placeOf_91 : decode cX3_placeOf 91 = .ok (.iload 8, 2) := dk_21 8 (dk_at dksX3_placeOf_3 21 rfl rfl)
theorem dX3_placeOf_93 : decode cX3_placeOf 93 = .ok (.i2l, 1) := dk_133 (dk_at dksX3_placeOf_3 23 rfl rfl)
theorem dX3_placeOf_94 : decode cX3_placeOf 94 = .ok (.aload_n 0, 1) := dk_42 (dk_at dksX3_placeOf_4 0 rfl rfl)
theorem dX3_placeOf_95 : decode cX3_placeOf 95 = .ok (.getfield 26, 3) := dk_180 0 26 (dk_at dksX3_placeOf_4 1 rfl rfl)
theorem dX3_placeOf_98 : decode cX3_placeOf 98 = .ok (.iconst 3, 1) := dk_6 (dk_at dksX3_placeOf_4 4 rfl rfl)
theorem dX3_placeOf_99 : decode cX3_placeOf 99 = .ok (.iload_n 1, 1) := dk_27 (dk_at dksX3_placeOf_4 5 rfl rfl)
theorem dX3_placeOf_100 : decode cX3_placeOf 100 = .ok (.imul, 1) := dk_104 (dk_at dksX3_placeOf_4 6 rfl rfl)
theorem dX3_placeOf_101 : decode cX3_placeOf 101 = .ok (.iload 7, 2) := dk_21 7 (dk_at dksX3_placeOf_4 7 rfl rfl)
theorem dX3_placeOf_103 : decode cX3_placeOf 103 = .ok (.iadd, 1) := dk_96 (dk_at dksX3_placeOf_4 9 rfl rfl)
theorem dX3_placeOf_104 : decode cX3_placeOf 104 = .ok (.iaload, 1) := dk_46 (dk_at dksX3_placeOf_4 10 rfl rfl)
theorem dX3_placeOf_105 : decode cX3_placeOf 105 = .ok (.i2l, 1) := dk_133 (dk_at dksX3_placeOf_4 11 rfl rfl)
theorem dX3_placeOf_106 : decode cX3_placeOf 106 = .ok (.lsub, 1) := dk_101 (dk_at dksX3_placeOf_4 12 rfl rfl)
theorem dX3_placeOf_107 : decode cX3_placeOf 107 = .ok (.ladd, 1) := dk_97 (dk_at dksX3_placeOf_4 13 rfl rfl)
theorem dX3_placeOf_108 : decode cX3_placeOf 108 = .ok (.lstore 5, 2) := dk_55 5 (dk_at dksX3_placeOf_4 14 rfl rfl)
theorem dX3_placeOf_110 : decode cX3_placeOf 110 = .ok (.iinc 7 1, 3) := dk_132 7 1 (dk_at dksX3_placeOf_4 16 rfl rfl)
theorem dX3_placeOf_113 : decode cX3_placeOf 113 = .ok (.goto (-107), 3) := dk_167 255 149 (dk_at dksX3_placeOf_4 19 rfl rfl)
theorem dX3_placeOf_116 : decode cX3_placeOf 116 = .ok (.lload 5, 2) := dk_22 5 (dk_at dksX3_placeOf_4 22 rfl rfl)
theorem dX3_placeOf_118 : decode cX3_placeOf 118 = .ok (.l2i, 1) := dk_136 (dk_at dksX3_placeOf_5 0 rfl rfl)
theorem dX3_placeOf_119 : decode cX3_placeOf 119 = .ok (.ireturn, 1) := dk_172 (dk_at dksX3_placeOf_5 1 rfl rfl)
abbrev cX3_noItem : ByteArray := prog_6_method_7_code
def yX3_noItem : MethodName := ⟨RX3, "noItem", "(I)I"⟩
def dkwX3_noItem_0 : List UInt8 := [42, 27, 181, 0, 9, 42, 6, 182, 0, 68, 172]
abbrev dktX3_noItem_0 : List UInt8 := dkwX3_noItem_0 ++ []
theorem dksX3_noItem_0 : cX3_noItem.data.toList.drop 0 = dktX3_noItem_0 := by decide +kernel
theorem dX3_noItem_0 : decode cX3_noItem 0 = .ok (.aload_n 0, 1) := dk_42 (dk_at dksX3_noItem_0 0 rfl rfl)
theorem dX3_noItem_1 : decode cX3_noItem 1 = .ok (.iload_n 1, 1) := dk_27 (dk_at dksX3_noItem_0 1 rfl rfl)
theorem dX3_noItem_2 : decode cX3_noItem 2 = .ok (.putfield 9, 3) := dk_181 0 9 (dk_at dksX3_noItem_0 2 rfl rfl)
theorem dX3_noItem_5 : decode cX3_noItem 5 = .ok (.aload_n 0, 1) := dk_42 (dk_at dksX3_noItem_0 5 rfl rfl)
theorem dX3_noItem_6 : decode cX3_noItem 6 = .ok (.iconst 3, 1) := dk_6 (dk_at dksX3_noItem_0 6 rfl rfl)
theorem dX3_noItem_7 : decode cX3_noItem 7 = .ok (.invokevirtual 68, 3) := dk_182 0 68 (dk_at dksX3_noItem_0 7 rfl rfl)
theorem dX3_noItem_10 : decode cX3_noItem 10 = .ok (.ireturn, 1) := dk_172 (dk_at dksX3_noItem_0 10 rfl rfl)
abbrev cX3_deep : ByteArray := prog_6_method_28_code
def yX3_deep : MethodName := ⟨RX3, "deep", "(I)I"⟩
def dkwX3_deep_8 : List UInt8 := [182, 0, 138, 132, 5, 1, 167, 255, 191, 42, 29, 182, 0, 75, 172]
abbrev dktX3_deep_8 : List UInt8 := dkwX3_deep_8 ++ []
def dkwX3_deep_7 : List UInt8 := [180, 0, 50, 42, 180, 0, 32, 29, 46, 21, 5, 21, 4, 108, 96, 46, 46, 21, 5, 21, 4, 112, 96]
abbrev dktX3_deep_7 : List UInt8 := dkwX3_deep_7 ++ dktX3_deep_8
def dkwX3_deep_6 : List UInt8 := [162, 0, 55, 42, 42, 180, 0, 35, 42, 180, 0, 32, 27, 46, 46, 21, 5, 96, 42, 180, 0, 35, 42]
abbrev dktX3_deep_6 : List UInt8 := dkwX3_deep_6 ++ dktX3_deep_7
def dkwX3_deep_5 : List UInt8 := [182, 0, 108, 136, 54, 4, 3, 54, 5, 21, 5, 42, 180, 0, 38, 42, 180, 0, 32, 27, 46, 46]
abbrev dktX3_deep_5 : List UInt8 := dkwX3_deep_5 ++ dktX3_deep_6
def dkwX3_deep_4 : List UInt8 := [182, 0, 125, 42, 180, 0, 38, 42, 180, 0, 32, 27, 46, 46, 154, 0, 7, 9, 167, 0, 9, 42, 27, 4]
abbrev dktX3_deep_4 : List UInt8 := dkwX3_deep_4 ++ dktX3_deep_5
def dkwX3_deep_3 : List UInt8 := [167, 0, 4, 3, 61, 28, 153, 0, 9, 42, 28, 182, 0, 68, 172, 42, 7, 27, 182, 0, 121, 62, 42, 29]
abbrev dktX3_deep_3 : List UInt8 := dkwX3_deep_3 ++ dktX3_deep_4
def dkwX3_deep_2 : List UInt8 := [20, 0, 82, 148, 158, 0, 7, 8, 167, 0, 18, 42, 180, 0, 98, 16, 24, 160, 0, 8, 16, 8]
abbrev dktX3_deep_2 : List UInt8 := dkwX3_deep_2 ++ dktX3_deep_3
def dkwX3_deep_1 : List UInt8 := [167, 0, 50, 42, 180, 0, 23, 27, 46, 5, 159, 0, 8, 16, 9, 167, 0, 35, 42, 27, 3, 182, 0, 108]
abbrev dktX3_deep_1 : List UInt8 := dkwX3_deep_1 ++ dktX3_deep_2
def dkwX3_deep_0 : List UInt8 := [42, 27, 182, 0, 131, 154, 0, 8, 16, 7, 167, 0, 64, 42, 180, 0, 20, 27, 46, 4, 159, 0, 7, 5]
abbrev dktX3_deep_0 : List UInt8 := dkwX3_deep_0 ++ dktX3_deep_1
theorem dksX3_deep_0 : cX3_deep.data.toList.drop 0 = dktX3_deep_0 := by decide +kernel
theorem dksX3_deep_1 : cX3_deep.data.toList.drop 24 = dktX3_deep_1 := dk_seg dksX3_deep_0 24 rfl rfl
theorem dksX3_deep_2 : cX3_deep.data.toList.drop 48 = dktX3_deep_2 := dk_seg dksX3_deep_1 24 rfl rfl
theorem dksX3_deep_3 : cX3_deep.data.toList.drop 70 = dktX3_deep_3 := dk_seg dksX3_deep_2 22 rfl rfl
theorem dksX3_deep_4 : cX3_deep.data.toList.drop 94 = dktX3_deep_4 := dk_seg dksX3_deep_3 24 rfl rfl
theorem dksX3_deep_5 : cX3_deep.data.toList.drop 118 = dktX3_deep_5 := dk_seg dksX3_deep_4 24 rfl rfl
theorem dksX3_deep_6 : cX3_deep.data.toList.drop 140 = dktX3_deep_6 := dk_seg dksX3_deep_5 22 rfl rfl
theorem dksX3_deep_7 : cX3_deep.data.toList.drop 163 = dktX3_deep_7 := dk_seg dksX3_deep_6 23 rfl rfl
theorem dksX3_deep_8 : cX3_deep.data.toList.drop 186 = dktX3_deep_8 := dk_seg dksX3_deep_7 23 rfl rfl
theorem dX3_deep_0 : decode cX3_deep 0 = .ok (.aload_n 0, 1) := dk_42 (dk_at dksX3_deep_0 0 rfl rfl)
theorem dX3_deep_1 : decode cX3_deep 1 = .ok (.iload_n 1, 1) := dk_27 (dk_at dksX3_deep_0 1 rfl rfl)
theorem dX3_deep_2 : decode cX3_deep 2 = .ok (.invokevirtual 131, 3) := dk_182 0 131 (dk_at dksX3_deep_0 2 rfl rfl)
theorem dX3_deep_5 : decode cX3_deep 5 = .ok (.ifCond .ne 8, 3) := dk_154 0 8 (dk_at dksX3_deep_0 5 rfl rfl)
theorem dX3_deep_8 : decode cX3_deep 8 = .ok (.bipush 7, 2) := dk_16 7 (dk_at dksX3_deep_0 8 rfl rfl)
theorem dX3_deep_10 : decode cX3_deep 10 = .ok (.goto 64, 3) := dk_167 0 64 (dk_at dksX3_deep_0 10 rfl rfl)
theorem dX3_deep_13 : decode cX3_deep 13 = .ok (.aload_n 0, 1) := dk_42 (dk_at dksX3_deep_0 13 rfl rfl)
theorem dX3_deep_14 : decode cX3_deep 14 = .ok (.getfield 20, 3) := dk_180 0 20 (dk_at dksX3_deep_0 14 rfl rfl)
theorem dX3_deep_17 : decode cX3_deep 17 = .ok (.iload_n 1, 1) := dk_27 (dk_at dksX3_deep_0 17 rfl rfl)
theorem dX3_deep_18 : decode cX3_deep 18 = .ok (.iaload, 1) := dk_46 (dk_at dksX3_deep_0 18 rfl rfl)
theorem dX3_deep_19 : decode cX3_deep 19 = .ok (.iconst 1, 1) := dk_4 (dk_at dksX3_deep_0 19 rfl rfl)
theorem dX3_deep_20 : decode cX3_deep 20 = .ok (.if_icmp .eq 7, 3) := dk_159 0 7 (dk_at dksX3_deep_0 20 rfl rfl)
theorem dX3_deep_23 : decode cX3_deep 23 = .ok (.iconst 2, 1) := dk_5 (dk_at dksX3_deep_0 23 rfl rfl)
theorem dX3_deep_24 : decode cX3_deep 24 = .ok (.goto 50, 3) := dk_167 0 50 (dk_at dksX3_deep_1 0 rfl rfl)
theorem dX3_deep_27 : decode cX3_deep 27 = .ok (.aload_n 0, 1) := dk_42 (dk_at dksX3_deep_1 3 rfl rfl)
theorem dX3_deep_28 : decode cX3_deep 28 = .ok (.getfield 23, 3) := dk_180 0 23 (dk_at dksX3_deep_1 4 rfl rfl)
theorem dX3_deep_31 : decode cX3_deep 31 = .ok (.iload_n 1, 1) := dk_27 (dk_at dksX3_deep_1 7 rfl rfl)
theorem dX3_deep_32 : decode cX3_deep 32 = .ok (.iaload, 1) := dk_46 (dk_at dksX3_deep_1 8 rfl rfl)
theorem dX3_deep_33 : decode cX3_deep 33 = .ok (.iconst 2, 1) := dk_5 (dk_at dksX3_deep_1 9 rfl rfl)
theorem dX3_deep_34 : decode cX3_deep 34 = .ok (.if_icmp .eq 8, 3) := dk_159 0 8 (dk_at dksX3_deep_1 10 rfl rfl)
theorem dX3_deep_37 : decode cX3_deep 37 = .ok (.bipush 9, 2) := dk_16 9 (dk_at dksX3_deep_1 13 rfl rfl)
theorem dX3_deep_39 : decode cX3_deep 39 = .ok (.goto 35, 3) := dk_167 0 35 (dk_at dksX3_deep_1 15 rfl rfl)
theorem dX3_deep_42 : decode cX3_deep 42 = .ok (.aload_n 0, 1) := dk_42 (dk_at dksX3_deep_1 18 rfl rfl)
theorem dX3_deep_43 : decode cX3_deep 43 = .ok (.iload_n 1, 1) := dk_27 (dk_at dksX3_deep_1 19 rfl rfl)
theorem dX3_deep_44 : decode cX3_deep 44 = .ok (.iconst 0, 1) := dk_3 (dk_at dksX3_deep_1 20 rfl rfl)
theorem dX3_deep_45 : decode cX3_deep 45 = .ok (.invokevirtual 108, 3) := dk_182 0 108 (dk_at dksX3_deep_1 21 rfl rfl)
theorem dX3_deep_48 : decode cX3_deep 48 = .ok (.ldc2_w 82, 3) := dk_20 0 82 (dk_at dksX3_deep_2 0 rfl rfl)
theorem dX3_deep_51 : decode cX3_deep 51 = .ok (.lcmp, 1) := dk_148 (dk_at dksX3_deep_2 3 rfl rfl)
theorem dX3_deep_52 : decode cX3_deep 52 = .ok (.ifCond .le 7, 3) := dk_158 0 7 (dk_at dksX3_deep_2 4 rfl rfl)
theorem dX3_deep_55 : decode cX3_deep 55 = .ok (.iconst 5, 1) := dk_8 (dk_at dksX3_deep_2 7 rfl rfl)
theorem dX3_deep_56 : decode cX3_deep 56 = .ok (.goto 18, 3) := dk_167 0 18 (dk_at dksX3_deep_2 8 rfl rfl)
theorem dX3_deep_59 : decode cX3_deep 59 = .ok (.aload_n 0, 1) := dk_42 (dk_at dksX3_deep_2 11 rfl rfl)
theorem dX3_deep_60 : decode cX3_deep 60 = .ok (.getfield 98, 3) := dk_180 0 98 (dk_at dksX3_deep_2 12 rfl rfl)
theorem dX3_deep_63 : decode cX3_deep 63 = .ok (.bipush 24, 2) := dk_16 24 (dk_at dksX3_deep_2 15 rfl rfl)
theorem dX3_deep_65 : decode cX3_deep 65 = .ok (.if_icmp .ne 8, 3) := dk_160 0 8 (dk_at dksX3_deep_2 17 rfl rfl)
theorem dX3_deep_68 : decode cX3_deep 68 = .ok (.bipush 8, 2) := dk_16 8 (dk_at dksX3_deep_2 20 rfl rfl)
theorem dX3_deep_70 : decode cX3_deep 70 = .ok (.goto 4, 3) := dk_167 0 4 (dk_at dksX3_deep_3 0 rfl rfl)
theorem dX3_deep_73 : decode cX3_deep 73 = .ok (.iconst 0, 1) := dk_3 (dk_at dksX3_deep_3 3 rfl rfl)
theorem dX3_deep_74 : decode cX3_deep 74 = .ok (.istore_n 2, 1) := dk_61 (dk_at dksX3_deep_3 4 rfl rfl)
theorem dX3_deep_75 : decode cX3_deep 75 = .ok (.iload_n 2, 1) := dk_28 (dk_at dksX3_deep_3 5 rfl rfl)
theorem dX3_deep_76 : decode cX3_deep 76 = .ok (.ifCond .eq 9, 3) := dk_153 0 9 (dk_at dksX3_deep_3 6 rfl rfl)
theorem dX3_deep_79 : decode cX3_deep 79 = .ok (.aload_n 0, 1) := dk_42 (dk_at dksX3_deep_3 9 rfl rfl)
theorem dX3_deep_80 : decode cX3_deep 80 = .ok (.iload_n 2, 1) := dk_28 (dk_at dksX3_deep_3 10 rfl rfl)
theorem dX3_deep_81 : decode cX3_deep 81 = .ok (.invokevirtual 68, 3) := dk_182 0 68 (dk_at dksX3_deep_3 11 rfl rfl)
theorem dX3_deep_84 : decode cX3_deep 84 = .ok (.ireturn, 1) := dk_172 (dk_at dksX3_deep_3 14 rfl rfl)
theorem dX3_deep_85 : decode cX3_deep 85 = .ok (.aload_n 0, 1) := dk_42 (dk_at dksX3_deep_3 15 rfl rfl)
theorem dX3_deep_86 : decode cX3_deep 86 = .ok (.iconst 4, 1) := dk_7 (dk_at dksX3_deep_3 16 rfl rfl)
theorem dX3_deep_87 : decode cX3_deep 87 = .ok (.iload_n 1, 1) := dk_27 (dk_at dksX3_deep_3 17 rfl rfl)
theorem dX3_deep_88 : decode cX3_deep 88 = .ok (.invokevirtual 121, 3) := dk_182 0 121 (dk_at dksX3_deep_3 18 rfl rfl)
theorem dX3_deep_91 : decode cX3_deep 91 = .ok (.istore_n 3, 1) := dk_62 (dk_at dksX3_deep_3 21 rfl rfl)
theorem dX3_deep_92 : decode cX3_deep 92 = .ok (.aload_n 0, 1) := dk_42 (dk_at dksX3_deep_3 22 rfl rfl)
theorem dX3_deep_93 : decode cX3_deep 93 = .ok (.iload_n 3, 1) := dk_29 (dk_at dksX3_deep_3 23 rfl rfl)
theorem dX3_deep_94 : decode cX3_deep 94 = .ok (.invokevirtual 125, 3) := dk_182 0 125 (dk_at dksX3_deep_4 0 rfl rfl)
theorem dX3_deep_97 : decode cX3_deep 97 = .ok (.aload_n 0, 1) := dk_42 (dk_at dksX3_deep_4 3 rfl rfl)
theorem dX3_deep_98 : decode cX3_deep 98 = .ok (.getfield 38, 3) := dk_180 0 38 (dk_at dksX3_deep_4 4 rfl rfl)
theorem dX3_deep_101 : decode cX3_deep 101 = .ok (.aload_n 0, 1) := dk_42 (dk_at dksX3_deep_4 7 rfl rfl)
theorem dX3_deep_102 : decode cX3_deep 102 = .ok (.getfield 32, 3) := dk_180 0 32 (dk_at dksX3_deep_4 8 rfl rfl)
theorem dX3_deep_105 : decode cX3_deep 105 = .ok (.iload_n 1, 1) := dk_27 (dk_at dksX3_deep_4 11 rfl rfl)
theorem dX3_deep_106 : decode cX3_deep 106 = .ok (.iaload, 1) := dk_46 (dk_at dksX3_deep_4 12 rfl rfl)
theorem dX3_deep_107 : decode cX3_deep 107 = .ok (.iaload, 1) := dk_46 (dk_at dksX3_deep_4 13 rfl rfl)
theorem dX3_deep_108 : decode cX3_deep 108 = .ok (.ifCond .ne 7, 3) := dk_154 0 7 (dk_at dksX3_deep_4 14 rfl rfl)
theorem dX3_deep_111 : decode cX3_deep 111 = .ok (.lconst 0, 1) := dk_9 (dk_at dksX3_deep_4 17 rfl rfl)
theorem dX3_deep_112 : decode cX3_deep 112 = .ok (.goto 9, 3) := dk_167 0 9 (dk_at dksX3_deep_4 18 rfl rfl)
theorem dX3_deep_115 : decode cX3_deep 115 = .ok (.aload_n 0, 1) := dk_42 (dk_at dksX3_deep_4 21 rfl rfl)
theorem dX3_deep_116 : decode cX3_deep 116 = .ok (.iload_n 1, 1) := dk_27 (dk_at dksX3_deep_4 22 rfl rfl)
theorem dX3_deep_117 : decode cX3_deep 117 = .ok (.iconst 1, 1) := dk_4 (dk_at dksX3_deep_4 23 rfl rfl)
theorem dX3_deep_118 : decode cX3_deep 118 = .ok (.invokevirtual 108, 3) := dk_182 0 108 (dk_at dksX3_deep_5 0 rfl rfl)
theorem dX3_deep_121 : decode cX3_deep 121 = .ok (.l2i, 1) := dk_136 (dk_at dksX3_deep_5 3 rfl rfl)
theorem dX3_deep_122 : decode cX3_deep 122 = .ok (.istore 4, 2) := dk_54 4 (dk_at dksX3_deep_5 4 rfl rfl)
theorem dX3_deep_124 : decode cX3_deep 124 = .ok (.iconst 0, 1) := dk_3 (dk_at dksX3_deep_5 6 rfl rfl)
theorem dX3_deep_125 : decode cX3_deep 125 = .ok (.istore 5, 2) := dk_54 5 (dk_at dksX3_deep_5 7 rfl rfl)
theorem dX3_deep_127 : decode cX3_deep 127 = .ok (.iload 5, 2) := dk_21 5 (dk_at dksX3_deep_5 9 rfl rfl)
theorem dX3_deep_129 : decode cX3_deep 129 = .ok (.aload_n 0, 1) := dk_42 (dk_at dksX3_deep_5 11 rfl rfl)
theorem dX3_deep_130 : decode cX3_deep 130 = .ok (.getfield 38, 3) := dk_180 0 38 (dk_at dksX3_deep_5 12 rfl rfl)
theorem dX3_deep_133 : decode cX3_deep 133 = .ok (.aload_n 0, 1) := dk_42 (dk_at dksX3_deep_5 15 rfl rfl)
theorem dX3_deep_134 : decode cX3_deep 134 = .ok (.getfield 32, 3) := dk_180 0 32 (dk_at dksX3_deep_5 16 rfl rfl)
theorem dX3_deep_137 : decode cX3_deep 137 = .ok (.iload_n 1, 1) := dk_27 (dk_at dksX3_deep_5 19 rfl rfl)
theorem dX3_deep_138 : decode cX3_deep 138 = .ok (.iaload, 1) := dk_46 (dk_at dksX3_deep_5 20 rfl rfl)
theorem dX3_deep_139 : decode cX3_deep 139 = .ok (.iaload, 1) := dk_46 (dk_at dksX3_deep_5 21 rfl rfl)
theorem dX3_deep_140 : decode cX3_deep 140 = .ok (.if_icmp .ge 55, 3) := dk_162 0 55 (dk_at dksX3_deep_6 0 rfl rfl)
theorem dX3_deep_143 : decode cX3_deep 143 = .ok (.aload_n 0, 1) := dk_42 (dk_at dksX3_deep_6 3 rfl rfl)
theorem dX3_deep_144 : decode cX3_deep 144 = .ok (.aload_n 0, 1) := dk_42 (dk_at dksX3_deep_6 4 rfl rfl)
theorem dX3_deep_145 : decode cX3_deep 145 = .ok (.getfield 35, 3) := dk_180 0 35 (dk_at dksX3_deep_6 5 rfl rfl)
theorem dX3_deep_148 : decode cX3_deep 148 = .ok (.aload_n 0, 1) := dk_42 (dk_at dksX3_deep_6 8 rfl rfl)
theorem dX3_deep_149 : decode cX3_deep 149 = .ok (.getfield 32, 3) := dk_180 0 32 (dk_at dksX3_deep_6 9 rfl rfl)
theorem dX3_deep_152 : decode cX3_deep 152 = .ok (.iload_n 1, 1) := dk_27 (dk_at dksX3_deep_6 12 rfl rfl)
theorem dX3_deep_153 : decode cX3_deep 153 = .ok (.iaload, 1) := dk_46 (dk_at dksX3_deep_6 13 rfl rfl)
theorem dX3_deep_154 : decode cX3_deep 154 = .ok (.iaload, 1) := dk_46 (dk_at dksX3_deep_6 14 rfl rfl)
theorem dX3_deep_155 : decode cX3_deep 155 = .ok (.iload 5, 2) := dk_21 5 (dk_at dksX3_deep_6 15 rfl rfl)
theorem dX3_deep_157 : decode cX3_deep 157 = .ok (.iadd, 1) := dk_96 (dk_at dksX3_deep_6 17 rfl rfl)
theorem dX3_deep_158 : decode cX3_deep 158 = .ok (.aload_n 0, 1) := dk_42 (dk_at dksX3_deep_6 18 rfl rfl)
theorem dX3_deep_159 : decode cX3_deep 159 = .ok (.getfield 35, 3) := dk_180 0 35 (dk_at dksX3_deep_6 19 rfl rfl)
theorem dX3_deep_162 : decode cX3_deep 162 = .ok (.aload_n 0, 1) := dk_42 (dk_at dksX3_deep_6 22 rfl rfl)
theorem dX3_deep_163 : decode cX3_deep 163 = .ok (.getfield 50, 3) := dk_180 0 50 (dk_at dksX3_deep_7 0 rfl rfl)
theorem dX3_deep_166 : decode cX3_deep 166 = .ok (.aload_n 0, 1) := dk_42 (dk_at dksX3_deep_7 3 rfl rfl)
theorem dX3_deep_167 : decode cX3_deep 167 = .ok (.getfield 32, 3) := dk_180 0 32 (dk_at dksX3_deep_7 4 rfl rfl)
theorem dX3_deep_170 : decode cX3_deep 170 = .ok (.iload_n 3, 1) := dk_29 (dk_at dksX3_deep_7 7 rfl rfl)
theorem dX3_deep_171 : decode cX3_deep 171 = .ok (.iaload, 1) := dk_46 (dk_at dksX3_deep_7 8 rfl rfl)
theorem dX3_deep_172 : decode cX3_deep 172 = .ok (.iload 5, 2) := dk_21 5 (dk_at dksX3_deep_7 9 rfl rfl)
theorem dX3_deep_174 : decode cX3_deep 174 = .ok (.iload 4, 2) := dk_21 4 (dk_at dksX3_deep_7 11 rfl rfl)
theorem dX3_deep_176 : decode cX3_deep 176 = .ok (.idiv, 1) := dk_108 (dk_at dksX3_deep_7 13 rfl rfl)
theorem dX3_deep_177 : decode cX3_deep 177 = .ok (.iadd, 1) := dk_96 (dk_at dksX3_deep_7 14 rfl rfl)
theorem dX3_deep_178 : decode cX3_deep 178 = .ok (.iaload, 1) := dk_46 (dk_at dksX3_deep_7 15 rfl rfl)
theorem dX3_deep_179 : decode cX3_deep 179 = .ok (.iaload, 1) := dk_46 (dk_at dksX3_deep_7 16 rfl rfl)
theorem dX3_deep_180 : decode cX3_deep 180 = .ok (.iload 5, 2) := dk_21 5 (dk_at dksX3_deep_7 17 rfl rfl)
theorem dX3_deep_182 : decode cX3_deep 182 = .ok (.iload 4, 2) := dk_21 4 (dk_at dksX3_deep_7 19 rfl rfl)
theorem dX3_deep_184 : decode cX3_deep 184 = .ok (.irem, 1) := dk_112 (dk_at dksX3_deep_7 21 rfl rfl)
theorem dX3_deep_185 : decode cX3_deep 185 = .ok (.iadd, 1) := dk_96 (dk_at dksX3_deep_7 22 rfl rfl)
theorem dX3_deep_186 : decode cX3_deep 186 = .ok (.invokevirtual 138, 3) := dk_182 0 138 (dk_at dksX3_deep_8 0 rfl rfl)
theorem dX3_deep_189 : decode cX3_deep 189 = .ok (.iinc 5 1, 3) := dk_132 5 1 (dk_at dksX3_deep_8 3 rfl rfl)
theorem dX3_deep_192 : decode cX3_deep 192 = .ok (.goto (-65), 3) := dk_167 255 191 (dk_at dksX3_deep_8 6 rfl rfl)
theorem dX3_deep_195 : decode cX3_deep 195 = .ok (.aload_n 0, 1) := dk_42 (dk_at dksX3_deep_8 9 rfl rfl)
theorem dX3_deep_196 : decode cX3_deep 196 = .ok (.iload_n 3, 1) := dk_29 (dk_at dksX3_deep_8 10 rfl rfl)
theorem dX3_deep_197 : decode cX3_deep 197 = .ok (.invokevirtual 75, 3) := dk_182 0 75 (dk_at dksX3_deep_8 11 rfl rfl)
theorem dX3_deep_200 : decode cX3_deep 200 = .ok (.ireturn, 1) := dk_172 (dk_at dksX3_deep_8 14 rfl rfl)
abbrev cX3_flat : ByteArray := prog_6_method_30_code
def yX3_flat : MethodName := ⟨RX3, "flat", "(I)I"⟩
def dkwX3_flat_11 : List UInt8 := [21, 4, 182, 0, 75, 172]
abbrev dktX3_flat_11 : List UInt8 := dkwX3_flat_11 ++ []
def dkwX3_flat_10 : List UInt8 := [21, 8, 96, 21, 5, 182, 0, 138, 132, 5, 1, 132, 8, 1, 167, 255, 222, 132, 6, 1, 167, 255, 187, 42]
abbrev dktX3_flat_10 : List UInt8 := dkwX3_flat_10 ++ dktX3_flat_11
def dkwX3_flat_9 : List UInt8 := [3, 54, 8, 21, 8, 42, 180, 0, 38, 21, 7, 46, 162, 0, 28, 42, 42, 180, 0, 35, 21, 7, 46]
abbrev dktX3_flat_9 : List UInt8 := dkwX3_flat_9 ++ dktX3_flat_10
def dkwX3_flat_8 : List UInt8 := [42, 27, 182, 0, 155, 162, 0, 65, 42, 180, 0, 50, 42, 180, 0, 32, 27, 46, 21, 6, 96, 46, 54, 7]
abbrev dktX3_flat_8 : List UInt8 := dkwX3_flat_8 ++ dktX3_flat_9
def dkwX3_flat_7 : List UInt8 := [29, 182, 0, 111, 79, 42, 180, 0, 35, 42, 180, 0, 32, 21, 4, 46, 46, 54, 5, 3, 54, 6, 21, 6]
abbrev dktX3_flat_7 : List UInt8 := dkwX3_flat_7 ++ dktX3_flat_8
def dkwX3_flat_6 : List UInt8 := [153, 0, 9, 42, 28, 182, 0, 68, 172, 42, 4, 27, 182, 0, 121, 54, 4, 42, 180, 0, 32, 21, 4, 42]
abbrev dktX3_flat_6 : List UInt8 := dkwX3_flat_6 ++ dktX3_flat_7
def dkwX3_flat_5 : List UInt8 := [132, 4, 1, 167, 255, 170, 28, 154, 0, 15, 42, 180, 0, 98, 16, 24, 160, 0, 6, 16, 8, 61, 28]
abbrev dktX3_flat_5 : List UInt8 := dkwX3_flat_5 ++ dktX3_flat_6
def dkwX3_flat_4 : List UInt8 := [167, 0, 4, 3, 61, 29, 28, 154, 0, 13, 42, 180, 0, 38, 21, 5, 46, 167, 0, 4, 3, 96, 62]
abbrev dktX3_flat_4 : List UInt8 := dkwX3_flat_4 ++ dktX3_flat_5
def dkwX3_flat_3 : List UInt8 := [167, 0, 27, 42, 180, 0, 38, 21, 5, 46, 133, 42, 27, 4, 182, 0, 108, 148, 153, 0, 8, 16, 11]
abbrev dktX3_flat_3 : List UInt8 := dkwX3_flat_3 ++ dktX3_flat_4
def dkwX3_flat_2 : List UInt8 := [42, 180, 0, 50, 42, 180, 0, 32, 27, 46, 21, 4, 96, 46, 54, 5, 21, 5, 2, 160, 0, 7, 4]
abbrev dktX3_flat_2 : List UInt8 := dkwX3_flat_2 ++ dktX3_flat_3
def dkwX3_flat_1 : List UInt8 := [167, 0, 4, 3, 61, 3, 62, 3, 54, 4, 28, 154, 0, 88, 21, 4, 42, 27, 182, 0, 155, 162, 0, 78]
abbrev dktX3_flat_1 : List UInt8 := dkwX3_flat_1 ++ dktX3_flat_2
def dkwX3_flat_0 : List UInt8 := [42, 27, 182, 0, 131, 154, 0, 8, 16, 7, 167, 0, 18, 42, 180, 0, 20, 27, 46, 7, 159, 0, 7, 5]
abbrev dktX3_flat_0 : List UInt8 := dkwX3_flat_0 ++ dktX3_flat_1
theorem dksX3_flat_0 : cX3_flat.data.toList.drop 0 = dktX3_flat_0 := by decide +kernel
theorem dksX3_flat_1 : cX3_flat.data.toList.drop 24 = dktX3_flat_1 := dk_seg dksX3_flat_0 24 rfl rfl
theorem dksX3_flat_2 : cX3_flat.data.toList.drop 48 = dktX3_flat_2 := dk_seg dksX3_flat_1 24 rfl rfl
theorem dksX3_flat_3 : cX3_flat.data.toList.drop 71 = dktX3_flat_3 := dk_seg dksX3_flat_2 23 rfl rfl
theorem dksX3_flat_4 : cX3_flat.data.toList.drop 94 = dktX3_flat_4 := dk_seg dksX3_flat_3 23 rfl rfl
theorem dksX3_flat_5 : cX3_flat.data.toList.drop 117 = dktX3_flat_5 := dk_seg dksX3_flat_4 23 rfl rfl
theorem dksX3_flat_6 : cX3_flat.data.toList.drop 140 = dktX3_flat_6 := dk_seg dksX3_flat_5 23 rfl rfl
theorem dksX3_flat_7 : cX3_flat.data.toList.drop 164 = dktX3_flat_7 := dk_seg dksX3_flat_6 24 rfl rfl
theorem dksX3_flat_8 : cX3_flat.data.toList.drop 188 = dktX3_flat_8 := dk_seg dksX3_flat_7 24 rfl rfl
theorem dksX3_flat_9 : cX3_flat.data.toList.drop 212 = dktX3_flat_9 := dk_seg dksX3_flat_8 24 rfl rfl
theorem dksX3_flat_10 : cX3_flat.data.toList.drop 235 = dktX3_flat_10 := dk_seg dksX3_flat_9 23 rfl rfl
theorem dksX3_flat_11 : cX3_flat.data.toList.drop 259 = dktX3_flat_11 := dk_seg dksX3_flat_10 24 rfl rfl
theorem dX3_flat_0 : decode cX3_flat 0 = .ok (.aload_n 0, 1) := dk_42 (dk_at dksX3_flat_0 0 rfl rfl)
theorem dX3_flat_1 : decode cX3_flat 1 = .ok (.iload_n 1, 1) := dk_27 (dk_at dksX3_flat_0 1 rfl rfl)
theorem dX3_flat_2 : decode cX3_flat 2 = .ok (.invokevirtual 131, 3) := dk_182 0 131 (dk_at dksX3_flat_0 2 rfl rfl)
theorem dX3_flat_5 : decode cX3_flat 5 = .ok (.ifCond .ne 8, 3) := dk_154 0 8 (dk_at dksX3_flat_0 5 rfl rfl)
theorem dX3_flat_8 : decode cX3_flat 8 = .ok (.bipush 7, 2) := dk_16 7 (dk_at dksX3_flat_0 8 rfl rfl)
theorem dX3_flat_10 : decode cX3_flat 10 = .ok (.goto 18, 3) := dk_167 0 18 (dk_at dksX3_flat_0 10 rfl rfl)
theorem dX3_flat_13 : decode cX3_flat 13 = .ok (.aload_n 0, 1) := dk_42 (dk_at dksX3_flat_0 13 rfl rfl)
theorem dX3_flat_14 : decode cX3_flat 14 = .ok (.getfield 20, 3) := dk_180 0 20 (dk_at dksX3_flat_0 14 rfl rfl)
theorem dX3_flat_17 : decode cX3_flat 17 = .ok (.iload_n 1, 1) := dk_27 (dk_at dksX3_flat_0 17 rfl rfl)
theorem dX3_flat_18 : decode cX3_flat 18 = .ok (.iaload, 1) := dk_46 (dk_at dksX3_flat_0 18 rfl rfl)
theorem dX3_flat_19 : decode cX3_flat 19 = .ok (.iconst 4, 1) := dk_7 (dk_at dksX3_flat_0 19 rfl rfl)
theorem dX3_flat_20 : decode cX3_flat 20 = .ok (.if_icmp .eq 7, 3) := dk_159 0 7 (dk_at dksX3_flat_0 20 rfl rfl)
theorem dX3_flat_23 : decode cX3_flat 23 = .ok (.iconst 2, 1) := dk_5 (dk_at dksX3_flat_0 23 rfl rfl)
theorem dX3_flat_24 : decode cX3_flat 24 = .ok (.goto 4, 3) := dk_167 0 4 (dk_at dksX3_flat_1 0 rfl rfl)
theorem dX3_flat_27 : decode cX3_flat 27 = .ok (.iconst 0, 1) := dk_3 (dk_at dksX3_flat_1 3 rfl rfl)
theorem dX3_flat_28 : decode cX3_flat 28 = .ok (.istore_n 2, 1) := dk_61 (dk_at dksX3_flat_1 4 rfl rfl)
theorem dX3_flat_29 : decode cX3_flat 29 = .ok (.iconst 0, 1) := dk_3 (dk_at dksX3_flat_1 5 rfl rfl)
theorem dX3_flat_30 : decode cX3_flat 30 = .ok (.istore_n 3, 1) := dk_62 (dk_at dksX3_flat_1 6 rfl rfl)
theorem dX3_flat_31 : decode cX3_flat 31 = .ok (.iconst 0, 1) := dk_3 (dk_at dksX3_flat_1 7 rfl rfl)
theorem dX3_flat_32 : decode cX3_flat 32 = .ok (.istore 4, 2) := dk_54 4 (dk_at dksX3_flat_1 8 rfl rfl)
theorem dX3_flat_34 : decode cX3_flat 34 = .ok (.iload_n 2, 1) := dk_28 (dk_at dksX3_flat_1 10 rfl rfl)
theorem dX3_flat_35 : decode cX3_flat 35 = .ok (.ifCond .ne 88, 3) := dk_154 0 88 (dk_at dksX3_flat_1 11 rfl rfl)
theorem dX3_flat_38 : decode cX3_flat 38 = .ok (.iload 4, 2) := dk_21 4 (dk_at dksX3_flat_1 14 rfl rfl)
theorem dX3_flat_40 : decode cX3_flat 40 = .ok (.aload_n 0, 1) := dk_42 (dk_at dksX3_flat_1 16 rfl rfl)
theorem dX3_flat_41 : decode cX3_flat 41 = .ok (.iload_n 1, 1) := dk_27 (dk_at dksX3_flat_1 17 rfl rfl)
theorem dX3_flat_42 : decode cX3_flat 42 = .ok (.invokevirtual 155, 3) := dk_182 0 155 (dk_at dksX3_flat_1 18 rfl rfl)
theorem dX3_flat_45 : decode cX3_flat 45 = .ok (.if_icmp .ge 78, 3) := dk_162 0 78 (dk_at dksX3_flat_1 21 rfl rfl)
theorem dX3_flat_48 : decode cX3_flat 48 = .ok (.aload_n 0, 1) := dk_42 (dk_at dksX3_flat_2 0 rfl rfl)
theorem dX3_flat_49 : decode cX3_flat 49 = .ok (.getfield 50, 3) := dk_180 0 50 (dk_at dksX3_flat_2 1 rfl rfl)
theorem dX3_flat_52 : decode cX3_flat 52 = .ok (.aload_n 0, 1) := dk_42 (dk_at dksX3_flat_2 4 rfl rfl)
theorem dX3_flat_53 : decode cX3_flat 53 = .ok (.getfield 32, 3) := dk_180 0 32 (dk_at dksX3_flat_2 5 rfl rfl)
theorem dX3_flat_56 : decode cX3_flat 56 = .ok (.iload_n 1, 1) := dk_27 (dk_at dksX3_flat_2 8 rfl rfl)
theorem dX3_flat_57 : decode cX3_flat 57 = .ok (.iaload, 1) := dk_46 (dk_at dksX3_flat_2 9 rfl rfl)
theorem dX3_flat_58 : decode cX3_flat 58 = .ok (.iload 4, 2) := dk_21 4 (dk_at dksX3_flat_2 10 rfl rfl)
theorem dX3_flat_60 : decode cX3_flat 60 = .ok (.iadd, 1) := dk_96 (dk_at dksX3_flat_2 12 rfl rfl)
theorem dX3_flat_61 : decode cX3_flat 61 = .ok (.iaload, 1) := dk_46 (dk_at dksX3_flat_2 13 rfl rfl)
theorem dX3_flat_62 : decode cX3_flat 62 = .ok (.istore 5, 2) := dk_54 5 (dk_at dksX3_flat_2 14 rfl rfl)
theorem dX3_flat_64 : decode cX3_flat 64 = .ok (.iload 5, 2) := dk_21 5 (dk_at dksX3_flat_2 16 rfl rfl)
theorem dX3_flat_66 : decode cX3_flat 66 = .ok (.iconst (-1), 1) := dk_2 (dk_at dksX3_flat_2 18 rfl rfl)
theorem dX3_flat_67 : decode cX3_flat 67 = .ok (.if_icmp .ne 7, 3) := dk_160 0 7 (dk_at dksX3_flat_2 19 rfl rfl)
theorem dX3_flat_70 : decode cX3_flat 70 = .ok (.iconst 1, 1) := dk_4 (dk_at dksX3_flat_2 22 rfl rfl)
theorem dX3_flat_71 : decode cX3_flat 71 = .ok (.goto 27, 3) := dk_167 0 27 (dk_at dksX3_flat_3 0 rfl rfl)
theorem dX3_flat_74 : decode cX3_flat 74 = .ok (.aload_n 0, 1) := dk_42 (dk_at dksX3_flat_3 3 rfl rfl)
theorem dX3_flat_75 : decode cX3_flat 75 = .ok (.getfield 38, 3) := dk_180 0 38 (dk_at dksX3_flat_3 4 rfl rfl)
theorem dX3_flat_78 : decode cX3_flat 78 = .ok (.iload 5, 2) := dk_21 5 (dk_at dksX3_flat_3 7 rfl rfl)
theorem dX3_flat_80 : decode cX3_flat 80 = .ok (.iaload, 1) := dk_46 (dk_at dksX3_flat_3 9 rfl rfl)
theorem dX3_flat_81 : decode cX3_flat 81 = .ok (.i2l, 1) := dk_133 (dk_at dksX3_flat_3 10 rfl rfl)
theorem dX3_flat_82 : decode cX3_flat 82 = .ok (.aload_n 0, 1) := dk_42 (dk_at dksX3_flat_3 11 rfl rfl)
theorem dX3_flat_83 : decode cX3_flat 83 = .ok (.iload_n 1, 1) := dk_27 (dk_at dksX3_flat_3 12 rfl rfl)
theorem dX3_flat_84 : decode cX3_flat 84 = .ok (.iconst 1, 1) := dk_4 (dk_at dksX3_flat_3 13 rfl rfl)
theorem dX3_flat_85 : decode cX3_flat 85 = .ok (.invokevirtual 108, 3) := dk_182 0 108 (dk_at dksX3_flat_3 14 rfl rfl)
theorem dX3_flat_88 : decode cX3_flat 88 = .ok (.lcmp, 1) := dk_148 (dk_at dksX3_flat_3 17 rfl rfl)
theorem dX3_flat_89 : decode cX3_flat 89 = .ok (.ifCond .eq 8, 3) := dk_153 0 8 (dk_at dksX3_flat_3 18 rfl rfl)
theorem dX3_flat_92 : decode cX3_flat 92 = .ok (.bipush 11, 2) := dk_16 11 (dk_at dksX3_flat_3 21 rfl rfl)
theorem dX3_flat_94 : decode cX3_flat 94 = .ok (.goto 4, 3) := dk_167 0 4 (dk_at dksX3_flat_4 0 rfl rfl)
theorem dX3_flat_97 : decode cX3_flat 97 = .ok (.iconst 0, 1) := dk_3 (dk_at dksX3_flat_4 3 rfl rfl)
theorem dX3_flat_98 : decode cX3_flat 98 = .ok (.istore_n 2, 1) := dk_61 (dk_at dksX3_flat_4 4 rfl rfl)
theorem dX3_flat_99 : decode cX3_flat 99 = .ok (.iload_n 3, 1) := dk_29 (dk_at dksX3_flat_4 5 rfl rfl)
theorem dX3_flat_100 : decode cX3_flat 100 = .ok (.iload_n 2, 1) := dk_28 (dk_at dksX3_flat_4 6 rfl rfl)
theorem dX3_flat_101 : decode cX3_flat 101 = .ok (.ifCond .ne 13, 3) := dk_154 0 13 (dk_at dksX3_flat_4 7 rfl rfl)
theorem dX3_flat_104 : decode cX3_flat 104 = .ok (.aload_n 0, 1) := dk_42 (dk_at dksX3_flat_4 10 rfl rfl)
theorem dX3_flat_105 : decode cX3_flat 105 = .ok (.getfield 38, 3) := dk_180 0 38 (dk_at dksX3_flat_4 11 rfl rfl)
theorem dX3_flat_108 : decode cX3_flat 108 = .ok (.iload 5, 2) := dk_21 5 (dk_at dksX3_flat_4 14 rfl rfl)
theorem dX3_flat_110 : decode cX3_flat 110 = .ok (.iaload, 1) := dk_46 (dk_at dksX3_flat_4 16 rfl rfl)
theorem dX3_flat_111 : decode cX3_flat 111 = .ok (.goto 4, 3) := dk_167 0 4 (dk_at dksX3_flat_4 17 rfl rfl)
theorem dX3_flat_114 : decode cX3_flat 114 = .ok (.iconst 0, 1) := dk_3 (dk_at dksX3_flat_4 20 rfl rfl)
theorem dX3_flat_115 : decode cX3_flat 115 = .ok (.iadd, 1) := dk_96 (dk_at dksX3_flat_4 21 rfl rfl)
theorem dX3_flat_116 : decode cX3_flat 116 = .ok (.istore_n 3, 1) := dk_62 (dk_at dksX3_flat_4 22 rfl rfl)
theorem dX3_flat_117 : decode cX3_flat 117 = .ok (.iinc 4 1, 3) := dk_132 4 1 (dk_at dksX3_flat_5 0 rfl rfl)
theorem dX3_flat_120 : decode cX3_flat 120 = .ok (.goto (-86), 3) := dk_167 255 170 (dk_at dksX3_flat_5 3 rfl rfl)
theorem dX3_flat_123 : decode cX3_flat 123 = .ok (.iload_n 2, 1) := dk_28 (dk_at dksX3_flat_5 6 rfl rfl)
theorem dX3_flat_124 : decode cX3_flat 124 = .ok (.ifCond .ne 15, 3) := dk_154 0 15 (dk_at dksX3_flat_5 7 rfl rfl)
theorem dX3_flat_127 : decode cX3_flat 127 = .ok (.aload_n 0, 1) := dk_42 (dk_at dksX3_flat_5 10 rfl rfl)
theorem dX3_flat_128 : decode cX3_flat 128 = .ok (.getfield 98, 3) := dk_180 0 98 (dk_at dksX3_flat_5 11 rfl rfl)
theorem dX3_flat_131 : decode cX3_flat 131 = .ok (.bipush 24, 2) := dk_16 24 (dk_at dksX3_flat_5 14 rfl rfl)
theorem dX3_flat_133 : decode cX3_flat 133 = .ok (.if_icmp .ne 6, 3) := dk_160 0 6 (dk_at dksX3_flat_5 16 rfl rfl)
theorem dX3_flat_136 : decode cX3_flat 136 = .ok (.bipush 8, 2) := dk_16 8 (dk_at dksX3_flat_5 19 rfl rfl)
theorem dX3_flat_138 : decode cX3_flat 138 = .ok (.istore_n 2, 1) := dk_61 (dk_at dksX3_flat_5 21 rfl rfl)
theorem dX3_flat_139 : decode cX3_flat 139 = .ok (.iload_n 2, 1) := dk_28 (dk_at dksX3_flat_5 22 rfl rfl)
theorem dX3_flat_140 : decode cX3_flat 140 = .ok (.ifCond .eq 9, 3) := dk_153 0 9 (dk_at dksX3_flat_6 0 rfl rfl)
theorem dX3_flat_143 : decode cX3_flat 143 = .ok (.aload_n 0, 1) := dk_42 (dk_at dksX3_flat_6 3 rfl rfl)
theorem dX3_flat_144 : decode cX3_flat 144 = .ok (.iload_n 2, 1) := dk_28 (dk_at dksX3_flat_6 4 rfl rfl)
theorem dX3_flat_145 : decode cX3_flat 145 = .ok (.invokevirtual 68, 3) := dk_182 0 68 (dk_at dksX3_flat_6 5 rfl rfl)
theorem dX3_flat_148 : decode cX3_flat 148 = .ok (.ireturn, 1) := dk_172 (dk_at dksX3_flat_6 8 rfl rfl)
theorem dX3_flat_149 : decode cX3_flat 149 = .ok (.aload_n 0, 1) := dk_42 (dk_at dksX3_flat_6 9 rfl rfl)
theorem dX3_flat_150 : decode cX3_flat 150 = .ok (.iconst 1, 1) := dk_4 (dk_at dksX3_flat_6 10 rfl rfl)
theorem dX3_flat_151 : decode cX3_flat 151 = .ok (.iload_n 1, 1) := dk_27 (dk_at dksX3_flat_6 11 rfl rfl)
theorem dX3_flat_152 : decode cX3_flat 152 = .ok (.invokevirtual 121, 3) := dk_182 0 121 (dk_at dksX3_flat_6 12 rfl rfl)
theorem dX3_flat_155 : decode cX3_flat 155 = .ok (.istore 4, 2) := dk_54 4 (dk_at dksX3_flat_6 15 rfl rfl)
theorem dX3_flat_157 : decode cX3_flat 157 = .ok (.aload_n 0, 1) := dk_42 (dk_at dksX3_flat_6 17 rfl rfl)
theorem dX3_flat_158 : decode cX3_flat 158 = .ok (.getfield 32, 3) := dk_180 0 32 (dk_at dksX3_flat_6 18 rfl rfl)
theorem dX3_flat_161 : decode cX3_flat 161 = .ok (.iload 4, 2) := dk_21 4 (dk_at dksX3_flat_6 21 rfl rfl)
theorem dX3_flat_163 : decode cX3_flat 163 = .ok (.aload_n 0, 1) := dk_42 (dk_at dksX3_flat_6 23 rfl rfl)
theorem dX3_flat_164 : decode cX3_flat 164 = .ok (.iload_n 3, 1) := dk_29 (dk_at dksX3_flat_7 0 rfl rfl)
theorem dX3_flat_165 : decode cX3_flat 165 = .ok (.invokevirtual 111, 3) := dk_182 0 111 (dk_at dksX3_flat_7 1 rfl rfl)
theorem dX3_flat_168 : decode cX3_flat 168 = .ok (.iastore, 1) := dk_79 (dk_at dksX3_flat_7 4 rfl rfl)
theorem dX3_flat_169 : decode cX3_flat 169 = .ok (.aload_n 0, 1) := dk_42 (dk_at dksX3_flat_7 5 rfl rfl)
theorem dX3_flat_170 : decode cX3_flat 170 = .ok (.getfield 35, 3) := dk_180 0 35 (dk_at dksX3_flat_7 6 rfl rfl)
theorem dX3_flat_173 : decode cX3_flat 173 = .ok (.aload_n 0, 1) := dk_42 (dk_at dksX3_flat_7 9 rfl rfl)
theorem dX3_flat_174 : decode cX3_flat 174 = .ok (.getfield 32, 3) := dk_180 0 32 (dk_at dksX3_flat_7 10 rfl rfl)
theorem dX3_flat_177 : decode cX3_flat 177 = .ok (.iload 4, 2) := dk_21 4 (dk_at dksX3_flat_7 13 rfl rfl)
theorem dX3_flat_179 : decode cX3_flat 179 = .ok (.iaload, 1) := dk_46 (dk_at dksX3_flat_7 15 rfl rfl)
theorem dX3_flat_180 : decode cX3_flat 180 = .ok (.iaload, 1) := dk_46 (dk_at dksX3_flat_7 16 rfl rfl)
theorem dX3_flat_181 : decode cX3_flat 181 = .ok (.istore 5, 2) := dk_54 5 (dk_at dksX3_flat_7 17 rfl rfl)
theorem dX3_flat_183 : decode cX3_flat 183 = .ok (.iconst 0, 1) := dk_3 (dk_at dksX3_flat_7 19 rfl rfl)
theorem dX3_flat_184 : decode cX3_flat 184 = .ok (.istore 6, 2) := dk_54 6 (dk_at dksX3_flat_7 20 rfl rfl)
theorem dX3_flat_186 : decode cX3_flat 186 = .ok (.iload 6, 2) := dk_21 6 (dk_at dksX3_flat_7 22 rfl rfl)
theorem dX3_flat_188 : decode cX3_flat 188 = .ok (.aload_n 0, 1) := dk_42 (dk_at dksX3_flat_8 0 rfl rfl)
theorem dX3_flat_189 : decode cX3_flat 189 = .ok (.iload_n 1, 1) := dk_27 (dk_at dksX3_flat_8 1 rfl rfl)
theorem dX3_flat_190 : decode cX3_flat 190 = .ok (.invokevirtual 155, 3) := dk_182 0 155 (dk_at dksX3_flat_8 2 rfl rfl)
theorem dX3_flat_193 : decode cX3_flat 193 = .ok (.if_icmp .ge 65, 3) := dk_162 0 65 (dk_at dksX3_flat_8 5 rfl rfl)
theorem dX3_flat_196 : decode cX3_flat 196 = .ok (.aload_n 0, 1) := dk_42 (dk_at dksX3_flat_8 8 rfl rfl)
theorem dX3_flat_197 : decode cX3_flat 197 = .ok (.getfield 50, 3) := dk_180 0 50 (dk_at dksX3_flat_8 9 rfl rfl)
theorem dX3_flat_200 : decode cX3_flat 200 = .ok (.aload_n 0, 1) := dk_42 (dk_at dksX3_flat_8 12 rfl rfl)
theorem dX3_flat_201 : decode cX3_flat 201 = .ok (.getfield 32, 3) := dk_180 0 32 (dk_at dksX3_flat_8 13 rfl rfl)
theorem dX3_flat_204 : decode cX3_flat 204 = .ok (.iload_n 1, 1) := dk_27 (dk_at dksX3_flat_8 16 rfl rfl)
theorem dX3_flat_205 : decode cX3_flat 205 = .ok (.iaload, 1) := dk_46 (dk_at dksX3_flat_8 17 rfl rfl)
theorem dX3_flat_206 : decode cX3_flat 206 = .ok (.iload 6, 2) := dk_21 6 (dk_at dksX3_flat_8 18 rfl rfl)
theorem dX3_flat_208 : decode cX3_flat 208 = .ok (.iadd, 1) := dk_96 (dk_at dksX3_flat_8 20 rfl rfl)
theorem dX3_flat_209 : decode cX3_flat 209 = .ok (.iaload, 1) := dk_46 (dk_at dksX3_flat_8 21 rfl rfl)
theorem dX3_flat_210 : decode cX3_flat 210 = .ok (.istore 7, 2) := dk_54 7 (dk_at dksX3_flat_8 22 rfl rfl)
theorem dX3_flat_212 : decode cX3_flat 212 = .ok (.iconst 0, 1) := dk_3 (dk_at dksX3_flat_9 0 rfl rfl)
theorem dX3_flat_213 : decode cX3_flat 213 = .ok (.istore 8, 2) := dk_54 8 (dk_at dksX3_flat_9 1 rfl rfl)
theorem dX3_flat_215 : decode cX3_flat 215 = .ok (.iload 8, 2) := dk_21 8 (dk_at dksX3_flat_9 3 rfl rfl)
theorem dX3_flat_217 : decode cX3_flat 217 = .ok (.aload_n 0, 1) := dk_42 (dk_at dksX3_flat_9 5 rfl rfl)
theorem dX3_flat_218 : decode cX3_flat 218 = .ok (.getfield 38, 3) := dk_180 0 38 (dk_at dksX3_flat_9 6 rfl rfl)
theorem dX3_flat_221 : decode cX3_flat 221 = .ok (.iload 7, 2) := dk_21 7 (dk_at dksX3_flat_9 9 rfl rfl)
theorem dX3_flat_223 : decode cX3_flat 223 = .ok (.iaload, 1) := dk_46 (dk_at dksX3_flat_9 11 rfl rfl)
theorem dX3_flat_224 : decode cX3_flat 224 = .ok (.if_icmp .ge 28, 3) := dk_162 0 28 (dk_at dksX3_flat_9 12 rfl rfl)
theorem dX3_flat_227 : decode cX3_flat 227 = .ok (.aload_n 0, 1) := dk_42 (dk_at dksX3_flat_9 15 rfl rfl)
theorem dX3_flat_228 : decode cX3_flat 228 = .ok (.aload_n 0, 1) := dk_42 (dk_at dksX3_flat_9 16 rfl rfl)
theorem dX3_flat_229 : decode cX3_flat 229 = .ok (.getfield 35, 3) := dk_180 0 35 (dk_at dksX3_flat_9 17 rfl rfl)
theorem dX3_flat_232 : decode cX3_flat 232 = .ok (.iload 7, 2) := dk_21 7 (dk_at dksX3_flat_9 20 rfl rfl)
theorem dX3_flat_234 : decode cX3_flat 234 = .ok (.iaload, 1) := dk_46 (dk_at dksX3_flat_9 22 rfl rfl)
theorem dX3_flat_235 : decode cX3_flat 235 = .ok (.iload 8, 2) := dk_21 8 (dk_at dksX3_flat_10 0 rfl rfl)
theorem dX3_flat_237 : decode cX3_flat 237 = .ok (.iadd, 1) := dk_96 (dk_at dksX3_flat_10 2 rfl rfl)
theorem dX3_flat_238 : decode cX3_flat 238 = .ok (.iload 5, 2) := dk_21 5 (dk_at dksX3_flat_10 3 rfl rfl)
theorem dX3_flat_240 : decode cX3_flat 240 = .ok (.invokevirtual 138, 3) := dk_182 0 138 (dk_at dksX3_flat_10 5 rfl rfl)
theorem dX3_flat_243 : decode cX3_flat 243 = .ok (.iinc 5 1, 3) := dk_132 5 1 (dk_at dksX3_flat_10 8 rfl rfl)
theorem dX3_flat_246 : decode cX3_flat 246 = .ok (.iinc 8 1, 3) := dk_132 8 1 (dk_at dksX3_flat_10 11 rfl rfl)
theorem dX3_flat_249 : decode cX3_flat 249 = .ok (.goto (-34), 3) := dk_167 255 222 (dk_at dksX3_flat_10 14 rfl rfl)
theorem dX3_flat_252 : decode cX3_flat 252 = .ok (.iinc 6 1, 3) := dk_132 6 1 (dk_at dksX3_flat_10 17 rfl rfl)
theorem dX3_flat_255 : decode cX3_flat 255 = .ok (.goto (-69), 3) := dk_167 255 187 (dk_at dksX3_flat_10 20 rfl rfl)
theorem dX3_flat_258 : decode cX3_flat 258 = .ok (.aload_n 0, 1) := dk_42 (dk_at dksX3_flat_10 23 rfl rfl)
theorem dX3_flat_259 : decode cX3_flat 259 = .ok (.iload 4, 2) := dk_21 4 (dk_at dksX3_flat_11 0 rfl rfl)
theorem dX3_flat_261 : decode cX3_flat 261 = .ok (.invokevirtual 75, 3) := dk_182 0 75 (dk_at dksX3_flat_11 2 rfl rfl)
theorem dX3_flat_264 : decode cX3_flat 264 = .ok (.ireturn, 1) := dk_172 (dk_at dksX3_flat_11 5 rfl rfl)
abbrev cX3_tableRows : ByteArray := prog_6_method_29_code
def yX3_tableRows : MethodName := ⟨RX3, "tableRows", "(I)I"⟩
def dkwX3_tableRows_0 : List UInt8 := [42, 27, 3, 182, 0, 108, 136, 172]
abbrev dktX3_tableRows_0 : List UInt8 := dkwX3_tableRows_0 ++ []
theorem dksX3_tableRows_0 : cX3_tableRows.data.toList.drop 0 = dktX3_tableRows_0 := by decide +kernel
theorem dX3_tableRows_0 : decode cX3_tableRows 0 = .ok (.aload_n 0, 1) := dk_42 (dk_at dksX3_tableRows_0 0 rfl rfl)
theorem dX3_tableRows_1 : decode cX3_tableRows 1 = .ok (.iload_n 1, 1) := dk_27 (dk_at dksX3_tableRows_0 1 rfl rfl)
theorem dX3_tableRows_2 : decode cX3_tableRows 2 = .ok (.iconst 0, 1) := dk_3 (dk_at dksX3_tableRows_0 2 rfl rfl)
theorem dX3_tableRows_3 : decode cX3_tableRows 3 = .ok (.invokevirtual 108, 3) := dk_182 0 108 (dk_at dksX3_tableRows_0 3 rfl rfl)
theorem dX3_tableRows_6 : decode cX3_tableRows 6 = .ok (.l2i, 1) := dk_136 (dk_at dksX3_tableRows_0 6 rfl rfl)
theorem dX3_tableRows_7 : decode cX3_tableRows 7 = .ok (.ireturn, 1) := dk_172 (dk_at dksX3_tableRows_0 7 rfl rfl)
abbrev cX3_ragged : ByteArray := prog_6_method_33_code
def yX3_ragged : MethodName := ⟨RX3, "ragged", "(III)I"⟩
def dkwX3_ragged_3 : List UInt8 := [27, 28, 182, 0, 161, 42, 29, 182, 0, 111, 79, 42, 4, 182, 0, 75, 172]
abbrev dktX3_ragged_3 : List UInt8 := dkwX3_ragged_3 ++ []
def dkwX3_ragged_2 : List UInt8 := [167, 0, 5, 21, 4, 54, 4, 21, 4, 153, 0, 10, 42, 21, 4, 182, 0, 68, 172, 42, 180, 0, 50, 42]
abbrev dktX3_ragged_2 : List UInt8 := dkwX3_ragged_2 ++ dktX3_ragged_3
def dkwX3_ragged_1 : List UInt8 := [154, 0, 25, 29, 156, 0, 7, 7, 167, 0, 19, 29, 16, 100, 164, 0, 7, 8, 167, 0, 9, 3]
abbrev dktX3_ragged_1 : List UInt8 := dkwX3_ragged_1 ++ dktX3_ragged_2
def dkwX3_ragged_0 : List UInt8 := [42, 27, 28, 182, 0, 158, 54, 4, 21, 4, 6, 160, 0, 9, 42, 3, 182, 0, 152, 172, 21, 4]
abbrev dktX3_ragged_0 : List UInt8 := dkwX3_ragged_0 ++ dktX3_ragged_1
theorem dksX3_ragged_0 : cX3_ragged.data.toList.drop 0 = dktX3_ragged_0 := by decide +kernel
theorem dksX3_ragged_1 : cX3_ragged.data.toList.drop 22 = dktX3_ragged_1 := dk_seg dksX3_ragged_0 22 rfl rfl
theorem dksX3_ragged_2 : cX3_ragged.data.toList.drop 44 = dktX3_ragged_2 := dk_seg dksX3_ragged_1 22 rfl rfl
theorem dksX3_ragged_3 : cX3_ragged.data.toList.drop 68 = dktX3_ragged_3 := dk_seg dksX3_ragged_2 24 rfl rfl
theorem dX3_ragged_0 : decode cX3_ragged 0 = .ok (.aload_n 0, 1) := dk_42 (dk_at dksX3_ragged_0 0 rfl rfl)
theorem dX3_ragged_1 : decode cX3_ragged 1 = .ok (.iload_n 1, 1) := dk_27 (dk_at dksX3_ragged_0 1 rfl rfl)
theorem dX3_ragged_2 : decode cX3_ragged 2 = .ok (.iload_n 2, 1) := dk_28 (dk_at dksX3_ragged_0 2 rfl rfl)
theorem dX3_ragged_3 : decode cX3_ragged 3 = .ok (.invokevirtual 158, 3) := dk_182 0 158 (dk_at dksX3_ragged_0 3 rfl rfl)
theorem dX3_ragged_6 : decode cX3_ragged 6 = .ok (.istore 4, 2) := dk_54 4 (dk_at dksX3_ragged_0 6 rfl rfl)
theorem dX3_ragged_8 : decode cX3_ragged 8 = .ok (.iload 4, 2) := dk_21 4 (dk_at dksX3_ragged_0 8 rfl rfl)
theorem dX3_ragged_10 : decode cX3_ragged 10 = .ok (.iconst 3, 1) := dk_6 (dk_at dksX3_ragged_0 10 rfl rfl)
theorem dX3_ragged_11 : decode cX3_ragged 11 = .ok (.if_icmp .ne 9, 3) := dk_160 0 9 (dk_at dksX3_ragged_0 11 rfl rfl)
theorem dX3_ragged_14 : decode cX3_ragged 14 = .ok (.aload_n 0, 1) := dk_42 (dk_at dksX3_ragged_0 14 rfl rfl)
theorem dX3_ragged_15 : decode cX3_ragged 15 = .ok (.iconst 0, 1) := dk_3 (dk_at dksX3_ragged_0 15 rfl rfl)
theorem dX3_ragged_16 : decode cX3_ragged 16 = .ok (.invokevirtual 152, 3) := dk_182 0 152 (dk_at dksX3_ragged_0 16 rfl rfl)
theorem dX3_ragged_19 : decode cX3_ragged 19 = .ok (.ireturn, 1) := dk_172 (dk_at dksX3_ragged_0 19 rfl rfl)
theorem dX3_ragged_20 : decode cX3_ragged 20 = .ok (.iload 4, 2) := dk_21 4 (dk_at dksX3_ragged_0 20 rfl rfl)
theorem dX3_ragged_22 : decode cX3_ragged 22 = .ok (.ifCond .ne 25, 3) := dk_154 0 25 (dk_at dksX3_ragged_1 0 rfl rfl)
theorem dX3_ragged_25 : decode cX3_ragged 25 = .ok (.iload_n 3, 1) := dk_29 (dk_at dksX3_ragged_1 3 rfl rfl)
theorem dX3_ragged_26 : decode cX3_ragged 26 = .ok (.ifCond .ge 7, 3) := dk_156 0 7 (dk_at dksX3_ragged_1 4 rfl rfl)
theorem dX3_ragged_29 : decode cX3_ragged 29 = .ok (.iconst 4, 1) := dk_7 (dk_at dksX3_ragged_1 7 rfl rfl)
theorem dX3_ragged_30 : decode cX3_ragged 30 = .ok (.goto 19, 3) := dk_167 0 19 (dk_at dksX3_ragged_1 8 rfl rfl)
theorem dX3_ragged_33 : decode cX3_ragged 33 = .ok (.iload_n 3, 1) := dk_29 (dk_at dksX3_ragged_1 11 rfl rfl)
theorem dX3_ragged_34 : decode cX3_ragged 34 = .ok (.bipush 100, 2) := dk_16 100 (dk_at dksX3_ragged_1 12 rfl rfl)
theorem dX3_ragged_36 : decode cX3_ragged 36 = .ok (.if_icmp .le 7, 3) := dk_164 0 7 (dk_at dksX3_ragged_1 14 rfl rfl)
theorem dX3_ragged_39 : decode cX3_ragged 39 = .ok (.iconst 5, 1) := dk_8 (dk_at dksX3_ragged_1 17 rfl rfl)
theorem dX3_ragged_40 : decode cX3_ragged 40 = .ok (.goto 9, 3) := dk_167 0 9 (dk_at dksX3_ragged_1 18 rfl rfl)
theorem dX3_ragged_43 : decode cX3_ragged 43 = .ok (.iconst 0, 1) := dk_3 (dk_at dksX3_ragged_1 21 rfl rfl)
theorem dX3_ragged_44 : decode cX3_ragged 44 = .ok (.goto 5, 3) := dk_167 0 5 (dk_at dksX3_ragged_2 0 rfl rfl)
theorem dX3_ragged_47 : decode cX3_ragged 47 = .ok (.iload 4, 2) := dk_21 4 (dk_at dksX3_ragged_2 3 rfl rfl)
theorem dX3_ragged_49 : decode cX3_ragged 49 = .ok (.istore 4, 2) := dk_54 4 (dk_at dksX3_ragged_2 5 rfl rfl)
theorem dX3_ragged_51 : decode cX3_ragged 51 = .ok (.iload 4, 2) := dk_21 4 (dk_at dksX3_ragged_2 7 rfl rfl)
theorem dX3_ragged_53 : decode cX3_ragged 53 = .ok (.ifCond .eq 10, 3) := dk_153 0 10 (dk_at dksX3_ragged_2 9 rfl rfl)
theorem dX3_ragged_56 : decode cX3_ragged 56 = .ok (.aload_n 0, 1) := dk_42 (dk_at dksX3_ragged_2 12 rfl rfl)
theorem dX3_ragged_57 : decode cX3_ragged 57 = .ok (.iload 4, 2) := dk_21 4 (dk_at dksX3_ragged_2 13 rfl rfl)
theorem dX3_ragged_59 : decode cX3_ragged 59 = .ok (.invokevirtual 68, 3) := dk_182 0 68 (dk_at dksX3_ragged_2 15 rfl rfl)
theorem dX3_ragged_62 : decode cX3_ragged 62 = .ok (.ireturn, 1) := dk_172 (dk_at dksX3_ragged_2 18 rfl rfl)
theorem dX3_ragged_63 : decode cX3_ragged 63 = .ok (.aload_n 0, 1) := dk_42 (dk_at dksX3_ragged_2 19 rfl rfl)
theorem dX3_ragged_64 : decode cX3_ragged 64 = .ok (.getfield 50, 3) := dk_180 0 50 (dk_at dksX3_ragged_2 20 rfl rfl)
theorem dX3_ragged_67 : decode cX3_ragged 67 = .ok (.aload_n 0, 1) := dk_42 (dk_at dksX3_ragged_2 23 rfl rfl)
theorem dX3_ragged_68 : decode cX3_ragged 68 = .ok (.iload_n 1, 1) := dk_27 (dk_at dksX3_ragged_3 0 rfl rfl)
theorem dX3_ragged_69 : decode cX3_ragged 69 = .ok (.iload_n 2, 1) := dk_28 (dk_at dksX3_ragged_3 1 rfl rfl)
theorem dX3_ragged_70 : decode cX3_ragged 70 = .ok (.invokevirtual 161, 3) := dk_182 0 161 (dk_at dksX3_ragged_3 2 rfl rfl)
theorem dX3_ragged_73 : decode cX3_ragged 73 = .ok (.aload_n 0, 1) := dk_42 (dk_at dksX3_ragged_3 5 rfl rfl)
theorem dX3_ragged_74 : decode cX3_ragged 74 = .ok (.iload_n 3, 1) := dk_29 (dk_at dksX3_ragged_3 6 rfl rfl)
theorem dX3_ragged_75 : decode cX3_ragged 75 = .ok (.invokevirtual 111, 3) := dk_182 0 111 (dk_at dksX3_ragged_3 7 rfl rfl)
theorem dX3_ragged_78 : decode cX3_ragged 78 = .ok (.iastore, 1) := dk_79 (dk_at dksX3_ragged_3 10 rfl rfl)
theorem dX3_ragged_79 : decode cX3_ragged 79 = .ok (.aload_n 0, 1) := dk_42 (dk_at dksX3_ragged_3 11 rfl rfl)
theorem dX3_ragged_80 : decode cX3_ragged 80 = .ok (.iconst 1, 1) := dk_4 (dk_at dksX3_ragged_3 12 rfl rfl)
theorem dX3_ragged_81 : decode cX3_ragged 81 = .ok (.invokevirtual 75, 3) := dk_182 0 75 (dk_at dksX3_ragged_3 13 rfl rfl)
theorem dX3_ragged_84 : decode cX3_ragged 84 = .ok (.ireturn, 1) := dk_172 (dk_at dksX3_ragged_3 16 rfl rfl)
abbrev cX3_wantsRow : ByteArray := prog_6_method_31_code
def yX3_wantsRow : MethodName := ⟨RX3, "wantsRow", "(II)I"⟩
def dkwX3_wantsRow_2 : List UInt8 := [184, 0, 101, 153, 0, 7, 3, 167, 0, 4, 6, 172]
abbrev dktX3_wantsRow_2 : List UInt8 := dkwX3_wantsRow_2 ++ []
def dkwX3_wantsRow_1 : List UInt8 := [167, 0, 34, 28, 133, 42, 180, 0, 26, 6, 27, 104, 46, 133, 42, 180, 0, 29, 6, 27, 104, 46, 133]
abbrev dktX3_wantsRow_1 : List UInt8 := dkwX3_wantsRow_1 ++ dktX3_wantsRow_2
def dkwX3_wantsRow_0 : List UInt8 := [42, 27, 182, 0, 131, 154, 0, 8, 16, 7, 167, 0, 48, 42, 180, 0, 20, 27, 46, 7, 159, 0, 7, 5]
abbrev dktX3_wantsRow_0 : List UInt8 := dkwX3_wantsRow_0 ++ dktX3_wantsRow_1
theorem dksX3_wantsRow_0 : cX3_wantsRow.data.toList.drop 0 = dktX3_wantsRow_0 := by decide +kernel
theorem dksX3_wantsRow_1 : cX3_wantsRow.data.toList.drop 24 = dktX3_wantsRow_1 := dk_seg dksX3_wantsRow_0 24 rfl rfl
theorem dksX3_wantsRow_2 : cX3_wantsRow.data.toList.drop 47 = dktX3_wantsRow_2 := dk_seg dksX3_wantsRow_1 23 rfl rfl
theorem dX3_wantsRow_0 : decode cX3_wantsRow 0 = .ok (.aload_n 0, 1) := dk_42 (dk_at dksX3_wantsRow_0 0 rfl rfl)
theorem dX3_wantsRow_1 : decode cX3_wantsRow 1 = .ok (.iload_n 1, 1) := dk_27 (dk_at dksX3_wantsRow_0 1 rfl rfl)
theorem dX3_wantsRow_2 : decode cX3_wantsRow 2 = .ok (.invokevirtual 131, 3) := dk_182 0 131 (dk_at dksX3_wantsRow_0 2 rfl rfl)
theorem dX3_wantsRow_5 : decode cX3_wantsRow 5 = .ok (.ifCond .ne 8, 3) := dk_154 0 8 (dk_at dksX3_wantsRow_0 5 rfl rfl)
theorem dX3_wantsRow_8 : decode cX3_wantsRow 8 = .ok (.bipush 7, 2) := dk_16 7 (dk_at dksX3_wantsRow_0 8 rfl rfl)
theorem dX3_wantsRow_10 : decode cX3_wantsRow 10 = .ok (.goto 48, 3) := dk_167 0 48 (dk_at dksX3_wantsRow_0 10 rfl rfl)
theorem dX3_wantsRow_13 : decode cX3_wantsRow 13 = .ok (.aload_n 0, 1) := dk_42 (dk_at dksX3_wantsRow_0 13 rfl rfl)
theorem dX3_wantsRow_14 : decode cX3_wantsRow 14 = .ok (.getfield 20, 3) := dk_180 0 20 (dk_at dksX3_wantsRow_0 14 rfl rfl)
theorem dX3_wantsRow_17 : decode cX3_wantsRow 17 = .ok (.iload_n 1, 1) := dk_27 (dk_at dksX3_wantsRow_0 17 rfl rfl)
theorem dX3_wantsRow_18 : decode cX3_wantsRow 18 = .ok (.iaload, 1) := dk_46 (dk_at dksX3_wantsRow_0 18 rfl rfl)
theorem dX3_wantsRow_19 : decode cX3_wantsRow 19 = .ok (.iconst 4, 1) := dk_7 (dk_at dksX3_wantsRow_0 19 rfl rfl)
theorem dX3_wantsRow_20 : decode cX3_wantsRow 20 = .ok (.if_icmp .eq 7, 3) := dk_159 0 7 (dk_at dksX3_wantsRow_0 20 rfl rfl)
theorem dX3_wantsRow_23 : decode cX3_wantsRow 23 = .ok (.iconst 2, 1) := dk_5 (dk_at dksX3_wantsRow_0 23 rfl rfl)
theorem dX3_wantsRow_24 : decode cX3_wantsRow 24 = .ok (.goto 34, 3) := dk_167 0 34 (dk_at dksX3_wantsRow_1 0 rfl rfl)
theorem dX3_wantsRow_27 : decode cX3_wantsRow 27 = .ok (.iload_n 2, 1) := dk_28 (dk_at dksX3_wantsRow_1 3 rfl rfl)
theorem dX3_wantsRow_28 : decode cX3_wantsRow 28 = .ok (.i2l, 1) := dk_133 (dk_at dksX3_wantsRow_1 4 rfl rfl)
theorem dX3_wantsRow_29 : decode cX3_wantsRow 29 = .ok (.aload_n 0, 1) := dk_42 (dk_at dksX3_wantsRow_1 5 rfl rfl)
theorem dX3_wantsRow_30 : decode cX3_wantsRow 30 = .ok (.getfield 26, 3) := dk_180 0 26 (dk_at dksX3_wantsRow_1 6 rfl rfl)
theorem dX3_wantsRow_33 : decode cX3_wantsRow 33 = .ok (.iconst 3, 1) := dk_6 (dk_at dksX3_wantsRow_1 9 rfl rfl)
theorem dX3_wantsRow_34 : decode cX3_wantsRow 34 = .ok (.iload_n 1, 1) := dk_27 (dk_at dksX3_wantsRow_1 10 rfl rfl)
theorem dX3_wantsRow_35 : decode cX3_wantsRow 35 = .ok (.imul, 1) := dk_104 (dk_at dksX3_wantsRow_1 11 rfl rfl)
theorem dX3_wantsRow_36 : decode cX3_wantsRow 36 = .ok (.iaload, 1) := dk_46 (dk_at dksX3_wantsRow_1 12 rfl rfl)
theorem dX3_wantsRow_37 : decode cX3_wantsRow 37 = .ok (.i2l, 1) := dk_133 (dk_at dksX3_wantsRow_1 13 rfl rfl)
theorem dX3_wantsRow_38 : decode cX3_wantsRow 38 = .ok (.aload_n 0, 1) := dk_42 (dk_at dksX3_wantsRow_1 14 rfl rfl)
theorem dX3_wantsRow_39 : decode cX3_wantsRow 39 = .ok (.getfield 29, 3) := dk_180 0 29 (dk_at dksX3_wantsRow_1 15 rfl rfl)
theorem dX3_wantsRow_42 : decode cX3_wantsRow 42 = .ok (.iconst 3, 1) := dk_6 (dk_at dksX3_wantsRow_1 18 rfl rfl)
theorem dX3_wantsRow_43 : decode cX3_wantsRow 43 = .ok (.iload_n 1, 1) := dk_27 (dk_at dksX3_wantsRow_1 19 rfl rfl)
theorem dX3_wantsRow_44 : decode cX3_wantsRow 44 = .ok (.imul, 1) := dk_104 (dk_at dksX3_wantsRow_1 20 rfl rfl)
theorem dX3_wantsRow_45 : decode cX3_wantsRow 45 = .ok (.iaload, 1) := dk_46 (dk_at dksX3_wantsRow_1 21 rfl rfl)
theorem dX3_wantsRow_46 : decode cX3_wantsRow 46 = .ok (.i2l, 1) := dk_133 (dk_at dksX3_wantsRow_1 22 rfl rfl)
theorem dX3_wantsRow_47 : decode cX3_wantsRow 47 = .ok (.invokestatic 101, 3) := dk_184 0 101 (dk_at dksX3_wantsRow_2 0 rfl rfl)
theorem dX3_wantsRow_50 : decode cX3_wantsRow 50 = .ok (.ifCond .eq 7, 3) := dk_153 0 7 (dk_at dksX3_wantsRow_2 3 rfl rfl)
theorem dX3_wantsRow_53 : decode cX3_wantsRow 53 = .ok (.iconst 0, 1) := dk_3 (dk_at dksX3_wantsRow_2 6 rfl rfl)
theorem dX3_wantsRow_54 : decode cX3_wantsRow 54 = .ok (.goto 4, 3) := dk_167 0 4 (dk_at dksX3_wantsRow_2 7 rfl rfl)
theorem dX3_wantsRow_57 : decode cX3_wantsRow 57 = .ok (.iconst 3, 1) := dk_6 (dk_at dksX3_wantsRow_2 10 rfl rfl)
theorem dX3_wantsRow_58 : decode cX3_wantsRow 58 = .ok (.ireturn, 1) := dk_172 (dk_at dksX3_wantsRow_2 11 rfl rfl)
abbrev cX3_slotOf : ByteArray := prog_6_method_32_code
def yX3_slotOf : MethodName := ⟨RX3, "slotOf", "(II)I"⟩
def dkwX3_slotOf_0 : List UInt8 := [42, 180, 0, 32, 27, 46, 28, 96, 42, 180, 0, 26, 6, 27, 104, 46, 100, 172]
abbrev dktX3_slotOf_0 : List UInt8 := dkwX3_slotOf_0 ++ []
theorem dksX3_slotOf_0 : cX3_slotOf.data.toList.drop 0 = dktX3_slotOf_0 := by decide +kernel
theorem dX3_slotOf_0 : decode cX3_slotOf 0 = .ok (.aload_n 0, 1) := dk_42 (dk_at dksX3_slotOf_0 0 rfl rfl)
theorem dX3_slotOf_1 : decode cX3_slotOf 1 = .ok (.getfield 32, 3) := dk_180 0 32 (dk_at dksX3_slotOf_0 1 rfl rfl)
theorem dX3_slotOf_4 : decode cX3_slotOf 4 = .ok (.iload_n 1, 1) := dk_27 (dk_at dksX3_slotOf_0 4 rfl rfl)
theorem dX3_slotOf_5 : decode cX3_slotOf 5 = .ok (.iaload, 1) := dk_46 (dk_at dksX3_slotOf_0 5 rfl rfl)
theorem dX3_slotOf_6 : decode cX3_slotOf 6 = .ok (.iload_n 2, 1) := dk_28 (dk_at dksX3_slotOf_0 6 rfl rfl)
theorem dX3_slotOf_7 : decode cX3_slotOf 7 = .ok (.iadd, 1) := dk_96 (dk_at dksX3_slotOf_0 7 rfl rfl)
theorem dX3_slotOf_8 : decode cX3_slotOf 8 = .ok (.aload_n 0, 1) := dk_42 (dk_at dksX3_slotOf_0 8 rfl rfl)
theorem dX3_slotOf_9 : decode cX3_slotOf 9 = .ok (.getfield 26, 3) := dk_180 0 26 (dk_at dksX3_slotOf_0 9 rfl rfl)
theorem dX3_slotOf_12 : decode cX3_slotOf 12 = .ok (.iconst 3, 1) := dk_6 (dk_at dksX3_slotOf_0 12 rfl rfl)
theorem dX3_slotOf_13 : decode cX3_slotOf 13 = .ok (.iload_n 1, 1) := dk_27 (dk_at dksX3_slotOf_0 13 rfl rfl)
theorem dX3_slotOf_14 : decode cX3_slotOf 14 = .ok (.imul, 1) := dk_104 (dk_at dksX3_slotOf_0 14 rfl rfl)
theorem dX3_slotOf_15 : decode cX3_slotOf 15 = .ok (.iaload, 1) := dk_46 (dk_at dksX3_slotOf_0 15 rfl rfl)
theorem dX3_slotOf_16 : decode cX3_slotOf 16 = .ok (.isub, 1) := dk_100 (dk_at dksX3_slotOf_0 16 rfl rfl)
theorem dX3_slotOf_17 : decode cX3_slotOf 17 = .ok (.ireturn, 1) := dk_172 (dk_at dksX3_slotOf_0 17 rfl rfl)
abbrev cX3_without : ByteArray := prog_6_method_34_code
def yX3_without : MethodName := ⟨RX3, "without", "(II)I"⟩
def dkwX3_without_1 : List UInt8 := [182, 0, 68, 172, 42, 180, 0, 50, 42, 27, 28, 182, 0, 161, 2, 79, 42, 4, 182, 0, 75, 172]
abbrev dktX3_without_1 : List UInt8 := dkwX3_without_1 ++ []
def dkwX3_without_0 : List UInt8 := [42, 27, 28, 182, 0, 158, 62, 29, 6, 160, 0, 9, 42, 3, 182, 0, 152, 172, 29, 153, 0, 9, 42, 29]
abbrev dktX3_without_0 : List UInt8 := dkwX3_without_0 ++ dktX3_without_1
theorem dksX3_without_0 : cX3_without.data.toList.drop 0 = dktX3_without_0 := by decide +kernel
theorem dksX3_without_1 : cX3_without.data.toList.drop 24 = dktX3_without_1 := dk_seg dksX3_without_0 24 rfl rfl
theorem dX3_without_0 : decode cX3_without 0 = .ok (.aload_n 0, 1) := dk_42 (dk_at dksX3_without_0 0 rfl rfl)
theorem dX3_without_1 : decode cX3_without 1 = .ok (.iload_n 1, 1) := dk_27 (dk_at dksX3_without_0 1 rfl rfl)
theorem dX3_without_2 : decode cX3_without 2 = .ok (.iload_n 2, 1) := dk_28 (dk_at dksX3_without_0 2 rfl rfl)
theorem dX3_without_3 : decode cX3_without 3 = .ok (.invokevirtual 158, 3) := dk_182 0 158 (dk_at dksX3_without_0 3 rfl rfl)
theorem dX3_without_6 : decode cX3_without 6 = .ok (.istore_n 3, 1) := dk_62 (dk_at dksX3_without_0 6 rfl rfl)
theorem dX3_without_7 : decode cX3_without 7 = .ok (.iload_n 3, 1) := dk_29 (dk_at dksX3_without_0 7 rfl rfl)
theorem dX3_without_8 : decode cX3_without 8 = .ok (.iconst 3, 1) := dk_6 (dk_at dksX3_without_0 8 rfl rfl)
theorem dX3_without_9 : decode cX3_without 9 = .ok (.if_icmp .ne 9, 3) := dk_160 0 9 (dk_at dksX3_without_0 9 rfl rfl)
theorem dX3_without_12 : decode cX3_without 12 = .ok (.aload_n 0, 1) := dk_42 (dk_at dksX3_without_0 12 rfl rfl)
theorem dX3_without_13 : decode cX3_without 13 = .ok (.iconst 0, 1) := dk_3 (dk_at dksX3_without_0 13 rfl rfl)
theorem dX3_without_14 : decode cX3_without 14 = .ok (.invokevirtual 152, 3) := dk_182 0 152 (dk_at dksX3_without_0 14 rfl rfl)
theorem dX3_without_17 : decode cX3_without 17 = .ok (.ireturn, 1) := dk_172 (dk_at dksX3_without_0 17 rfl rfl)
theorem dX3_without_18 : decode cX3_without 18 = .ok (.iload_n 3, 1) := dk_29 (dk_at dksX3_without_0 18 rfl rfl)
theorem dX3_without_19 : decode cX3_without 19 = .ok (.ifCond .eq 9, 3) := dk_153 0 9 (dk_at dksX3_without_0 19 rfl rfl)
theorem dX3_without_22 : decode cX3_without 22 = .ok (.aload_n 0, 1) := dk_42 (dk_at dksX3_without_0 22 rfl rfl)
theorem dX3_without_23 : decode cX3_without 23 = .ok (.iload_n 3, 1) := dk_29 (dk_at dksX3_without_0 23 rfl rfl)
theorem dX3_without_24 : decode cX3_without 24 = .ok (.invokevirtual 68, 3) := dk_182 0 68 (dk_at dksX3_without_1 0 rfl rfl)
theorem dX3_without_27 : decode cX3_without 27 = .ok (.ireturn, 1) := dk_172 (dk_at dksX3_without_1 3 rfl rfl)
theorem dX3_without_28 : decode cX3_without 28 = .ok (.aload_n 0, 1) := dk_42 (dk_at dksX3_without_1 4 rfl rfl)
theorem dX3_without_29 : decode cX3_without 29 = .ok (.getfield 50, 3) := dk_180 0 50 (dk_at dksX3_without_1 5 rfl rfl)
theorem dX3_without_32 : decode cX3_without 32 = .ok (.aload_n 0, 1) := dk_42 (dk_at dksX3_without_1 8 rfl rfl)
theorem dX3_without_33 : decode cX3_without 33 = .ok (.iload_n 1, 1) := dk_27 (dk_at dksX3_without_1 9 rfl rfl)
theorem dX3_without_34 : decode cX3_without 34 = .ok (.iload_n 2, 1) := dk_28 (dk_at dksX3_without_1 10 rfl rfl)
theorem dX3_without_35 : decode cX3_without 35 = .ok (.invokevirtual 161, 3) := dk_182 0 161 (dk_at dksX3_without_1 11 rfl rfl)
theorem dX3_without_38 : decode cX3_without 38 = .ok (.iconst (-1), 1) := dk_2 (dk_at dksX3_without_1 14 rfl rfl)
theorem dX3_without_39 : decode cX3_without 39 = .ok (.iastore, 1) := dk_79 (dk_at dksX3_without_1 15 rfl rfl)
theorem dX3_without_40 : decode cX3_without 40 = .ok (.aload_n 0, 1) := dk_42 (dk_at dksX3_without_1 16 rfl rfl)
theorem dX3_without_41 : decode cX3_without 41 = .ok (.iconst 1, 1) := dk_4 (dk_at dksX3_without_1 17 rfl rfl)
theorem dX3_without_42 : decode cX3_without 42 = .ok (.invokevirtual 75, 3) := dk_182 0 75 (dk_at dksX3_without_1 18 rfl rfl)
theorem dX3_without_45 : decode cX3_without 45 = .ok (.ireturn, 1) := dk_172 (dk_at dksX3_without_1 21 rfl rfl)
abbrev cX3_tie : ByteArray := prog_6_method_35_code
def yX3_tie : MethodName := ⟨RX3, "tie", "(IIII)I"⟩
def dkwX3_tie_4 : List UInt8 := [29, 21, 4, 182, 0, 161, 46, 79, 42, 4, 182, 0, 75, 172]
abbrev dktX3_tie_4 : List UInt8 := dkwX3_tie_4 ++ []
def dkwX3_tie_3 : List UInt8 := [153, 0, 9, 42, 4, 182, 0, 152, 172, 42, 180, 0, 50, 42, 27, 28, 182, 0, 161, 42, 180, 0, 50, 42]
abbrev dktX3_tie_3 : List UInt8 := dkwX3_tie_3 ++ dktX3_tie_4
def dkwX3_tie_2 : List UInt8 := [172, 42, 27, 28, 182, 0, 158, 153, 0, 9, 42, 3, 182, 0, 152, 172, 42, 29, 21, 4, 182, 0, 158]
abbrev dktX3_tie_2 : List UInt8 := dkwX3_tie_2 ++ dktX3_tie_3
def dkwX3_tie_1 : List UInt8 := [180, 0, 20, 27, 46, 7, 160, 0, 13, 42, 180, 0, 20, 29, 46, 7, 159, 0, 9, 42, 5, 182, 0, 68]
abbrev dktX3_tie_1 : List UInt8 := dkwX3_tie_1 ++ dktX3_tie_2
def dkwX3_tie_0 : List UInt8 := [42, 27, 182, 0, 131, 153, 0, 11, 42, 29, 182, 0, 131, 154, 0, 10, 42, 16, 7, 182, 0, 68, 172, 42]
abbrev dktX3_tie_0 : List UInt8 := dkwX3_tie_0 ++ dktX3_tie_1
theorem dksX3_tie_0 : cX3_tie.data.toList.drop 0 = dktX3_tie_0 := by decide +kernel
theorem dksX3_tie_1 : cX3_tie.data.toList.drop 24 = dktX3_tie_1 := dk_seg dksX3_tie_0 24 rfl rfl
theorem dksX3_tie_2 : cX3_tie.data.toList.drop 48 = dktX3_tie_2 := dk_seg dksX3_tie_1 24 rfl rfl
theorem dksX3_tie_3 : cX3_tie.data.toList.drop 71 = dktX3_tie_3 := dk_seg dksX3_tie_2 23 rfl rfl
theorem dksX3_tie_4 : cX3_tie.data.toList.drop 95 = dktX3_tie_4 := dk_seg dksX3_tie_3 24 rfl rfl
theorem dX3_tie_0 : decode cX3_tie 0 = .ok (.aload_n 0, 1) := dk_42 (dk_at dksX3_tie_0 0 rfl rfl)
theorem dX3_tie_1 : decode cX3_tie 1 = .ok (.iload_n 1, 1) := dk_27 (dk_at dksX3_tie_0 1 rfl rfl)
theorem dX3_tie_2 : decode cX3_tie 2 = .ok (.invokevirtual 131, 3) := dk_182 0 131 (dk_at dksX3_tie_0 2 rfl rfl)
theorem dX3_tie_5 : decode cX3_tie 5 = .ok (.ifCond .eq 11, 3) := dk_153 0 11 (dk_at dksX3_tie_0 5 rfl rfl)
theorem dX3_tie_8 : decode cX3_tie 8 = .ok (.aload_n 0, 1) := dk_42 (dk_at dksX3_tie_0 8 rfl rfl)
theorem dX3_tie_9 : decode cX3_tie 9 = .ok (.iload_n 3, 1) := dk_29 (dk_at dksX3_tie_0 9 rfl rfl)
theorem dX3_tie_10 : decode cX3_tie 10 = .ok (.invokevirtual 131, 3) := dk_182 0 131 (dk_at dksX3_tie_0 10 rfl rfl)
theorem dX3_tie_13 : decode cX3_tie 13 = .ok (.ifCond .ne 10, 3) := dk_154 0 10 (dk_at dksX3_tie_0 13 rfl rfl)
theorem dX3_tie_16 : decode cX3_tie 16 = .ok (.aload_n 0, 1) := dk_42 (dk_at dksX3_tie_0 16 rfl rfl)
theorem dX3_tie_17 : decode cX3_tie 17 = .ok (.bipush 7, 2) := dk_16 7 (dk_at dksX3_tie_0 17 rfl rfl)
theorem dX3_tie_19 : decode cX3_tie 19 = .ok (.invokevirtual 68, 3) := dk_182 0 68 (dk_at dksX3_tie_0 19 rfl rfl)
theorem dX3_tie_22 : decode cX3_tie 22 = .ok (.ireturn, 1) := dk_172 (dk_at dksX3_tie_0 22 rfl rfl)
theorem dX3_tie_23 : decode cX3_tie 23 = .ok (.aload_n 0, 1) := dk_42 (dk_at dksX3_tie_0 23 rfl rfl)
theorem dX3_tie_24 : decode cX3_tie 24 = .ok (.getfield 20, 3) := dk_180 0 20 (dk_at dksX3_tie_1 0 rfl rfl)
theorem dX3_tie_27 : decode cX3_tie 27 = .ok (.iload_n 1, 1) := dk_27 (dk_at dksX3_tie_1 3 rfl rfl)
theorem dX3_tie_28 : decode cX3_tie 28 = .ok (.iaload, 1) := dk_46 (dk_at dksX3_tie_1 4 rfl rfl)
theorem dX3_tie_29 : decode cX3_tie 29 = .ok (.iconst 4, 1) := dk_7 (dk_at dksX3_tie_1 5 rfl rfl)
theorem dX3_tie_30 : decode cX3_tie 30 = .ok (.if_icmp .ne 13, 3) := dk_160 0 13 (dk_at dksX3_tie_1 6 rfl rfl)
theorem dX3_tie_33 : decode cX3_tie 33 = .ok (.aload_n 0, 1) := dk_42 (dk_at dksX3_tie_1 9 rfl rfl)
theorem dX3_tie_34 : decode cX3_tie 34 = .ok (.getfield 20, 3) := dk_180 0 20 (dk_at dksX3_tie_1 10 rfl rfl)
theorem dX3_tie_37 : decode cX3_tie 37 = .ok (.iload_n 3, 1) := dk_29 (dk_at dksX3_tie_1 13 rfl rfl)
theorem dX3_tie_38 : decode cX3_tie 38 = .ok (.iaload, 1) := dk_46 (dk_at dksX3_tie_1 14 rfl rfl)
theorem dX3_tie_39 : decode cX3_tie 39 = .ok (.iconst 4, 1) := dk_7 (dk_at dksX3_tie_1 15 rfl rfl)
theorem dX3_tie_40 : decode cX3_tie 40 = .ok (.if_icmp .eq 9, 3) := dk_159 0 9 (dk_at dksX3_tie_1 16 rfl rfl)
theorem dX3_tie_43 : decode cX3_tie 43 = .ok (.aload_n 0, 1) := dk_42 (dk_at dksX3_tie_1 19 rfl rfl)
theorem dX3_tie_44 : decode cX3_tie 44 = .ok (.iconst 2, 1) := dk_5 (dk_at dksX3_tie_1 20 rfl rfl)
theorem dX3_tie_45 : decode cX3_tie 45 = .ok (.invokevirtual 68, 3) := dk_182 0 68 (dk_at dksX3_tie_1 21 rfl rfl)
theorem dX3_tie_48 : decode cX3_tie 48 = .ok (.ireturn, 1) := dk_172 (dk_at dksX3_tie_2 0 rfl rfl)
theorem dX3_tie_49 : decode cX3_tie 49 = .ok (.aload_n 0, 1) := dk_42 (dk_at dksX3_tie_2 1 rfl rfl)
theorem dX3_tie_50 : decode cX3_tie 50 = .ok (.iload_n 1, 1) := dk_27 (dk_at dksX3_tie_2 2 rfl rfl)
theorem dX3_tie_51 : decode cX3_tie 51 = .ok (.iload_n 2, 1) := dk_28 (dk_at dksX3_tie_2 3 rfl rfl)
theorem dX3_tie_52 : decode cX3_tie 52 = .ok (.invokevirtual 158, 3) := dk_182 0 158 (dk_at dksX3_tie_2 4 rfl rfl)
theorem dX3_tie_55 : decode cX3_tie 55 = .ok (.ifCond .eq 9, 3) := dk_153 0 9 (dk_at dksX3_tie_2 7 rfl rfl)
theorem dX3_tie_58 : decode cX3_tie 58 = .ok (.aload_n 0, 1) := dk_42 (dk_at dksX3_tie_2 10 rfl rfl)
theorem dX3_tie_59 : decode cX3_tie 59 = .ok (.iconst 0, 1) := dk_3 (dk_at dksX3_tie_2 11 rfl rfl)
theorem dX3_tie_60 : decode cX3_tie 60 = .ok (.invokevirtual 152, 3) := dk_182 0 152 (dk_at dksX3_tie_2 12 rfl rfl)
theorem dX3_tie_63 : decode cX3_tie 63 = .ok (.ireturn, 1) := dk_172 (dk_at dksX3_tie_2 15 rfl rfl)
theorem dX3_tie_64 : decode cX3_tie 64 = .ok (.aload_n 0, 1) := dk_42 (dk_at dksX3_tie_2 16 rfl rfl)
theorem dX3_tie_65 : decode cX3_tie 65 = .ok (.iload_n 3, 1) := dk_29 (dk_at dksX3_tie_2 17 rfl rfl)
theorem dX3_tie_66 : decode cX3_tie 66 = .ok (.iload 4, 2) := dk_21 4 (dk_at dksX3_tie_2 18 rfl rfl)
theorem dX3_tie_68 : decode cX3_tie 68 = .ok (.invokevirtual 158, 3) := dk_182 0 158 (dk_at dksX3_tie_2 20 rfl rfl)
theorem dX3_tie_71 : decode cX3_tie 71 = .ok (.ifCond .eq 9, 3) := dk_153 0 9 (dk_at dksX3_tie_3 0 rfl rfl)
theorem dX3_tie_74 : decode cX3_tie 74 = .ok (.aload_n 0, 1) := dk_42 (dk_at dksX3_tie_3 3 rfl rfl)
theorem dX3_tie_75 : decode cX3_tie 75 = .ok (.iconst 1, 1) := dk_4 (dk_at dksX3_tie_3 4 rfl rfl)
theorem dX3_tie_76 : decode cX3_tie 76 = .ok (.invokevirtual 152, 3) := dk_182 0 152 (dk_at dksX3_tie_3 5 rfl rfl)
theorem dX3_tie_79 : decode cX3_tie 79 = .ok (.ireturn, 1) := dk_172 (dk_at dksX3_tie_3 8 rfl rfl)
theorem dX3_tie_80 : decode cX3_tie 80 = .ok (.aload_n 0, 1) := dk_42 (dk_at dksX3_tie_3 9 rfl rfl)
theorem dX3_tie_81 : decode cX3_tie 81 = .ok (.getfield 50, 3) := dk_180 0 50 (dk_at dksX3_tie_3 10 rfl rfl)
theorem dX3_tie_84 : decode cX3_tie 84 = .ok (.aload_n 0, 1) := dk_42 (dk_at dksX3_tie_3 13 rfl rfl)
theorem dX3_tie_85 : decode cX3_tie 85 = .ok (.iload_n 1, 1) := dk_27 (dk_at dksX3_tie_3 14 rfl rfl)
theorem dX3_tie_86 : decode cX3_tie 86 = .ok (.iload_n 2, 1) := dk_28 (dk_at dksX3_tie_3 15 rfl rfl)
theorem dX3_tie_87 : decode cX3_tie 87 = .ok (.invokevirtual 161, 3) := dk_182 0 161 (dk_at dksX3_tie_3 16 rfl rfl)
theorem dX3_tie_90 : decode cX3_tie 90 = .ok (.aload_n 0, 1) := dk_42 (dk_at dksX3_tie_3 19 rfl rfl)
theorem dX3_tie_91 : decode cX3_tie 91 = .ok (.getfield 50, 3) := dk_180 0 50 (dk_at dksX3_tie_3 20 rfl rfl)
theorem dX3_tie_94 : decode cX3_tie 94 = .ok (.aload_n 0, 1) := dk_42 (dk_at dksX3_tie_3 23 rfl rfl)
theorem dX3_tie_95 : decode cX3_tie 95 = .ok (.iload_n 3, 1) := dk_29 (dk_at dksX3_tie_4 0 rfl rfl)
theorem dX3_tie_96 : decode cX3_tie 96 = .ok (.iload 4, 2) := dk_21 4 (dk_at dksX3_tie_4 1 rfl rfl)
theorem dX3_tie_98 : decode cX3_tie 98 = .ok (.invokevirtual 161, 3) := dk_182 0 161 (dk_at dksX3_tie_4 3 rfl rfl)
theorem dX3_tie_101 : decode cX3_tie 101 = .ok (.iaload, 1) := dk_46 (dk_at dksX3_tie_4 6 rfl rfl)
theorem dX3_tie_102 : decode cX3_tie 102 = .ok (.iastore, 1) := dk_79 (dk_at dksX3_tie_4 7 rfl rfl)
theorem dX3_tie_103 : decode cX3_tie 103 = .ok (.aload_n 0, 1) := dk_42 (dk_at dksX3_tie_4 8 rfl rfl)
theorem dX3_tie_104 : decode cX3_tie 104 = .ok (.iconst 1, 1) := dk_4 (dk_at dksX3_tie_4 9 rfl rfl)
theorem dX3_tie_105 : decode cX3_tie 105 = .ok (.invokevirtual 75, 3) := dk_182 0 75 (dk_at dksX3_tie_4 10 rfl rfl)
theorem dX3_tie_108 : decode cX3_tie 108 = .ok (.ireturn, 1) := dk_172 (dk_at dksX3_tie_4 13 rfl rfl)
abbrev cX3_get : ByteArray := prog_6_method_37_code
def yX3_get : MethodName := ⟨RX3, "get", "(IIII)J"⟩
def dkwX3_get_2 : List UInt8 := [181, 0, 65, 42, 180, 0, 42, 21, 5, 47, 173]
abbrev dktX3_get_2 : List UInt8 := dkwX3_get_2 ++ []
def dkwX3_get_1 : List UInt8 := [46, 6, 160, 0, 20, 42, 180, 0, 46, 21, 5, 51, 154, 0, 10, 42, 4, 182, 0, 68, 133, 173, 42, 3]
abbrev dktX3_get_1 : List UInt8 := dkwX3_get_1 ++ dktX3_get_2
def dkwX3_get_0 : List UInt8 := [42, 27, 28, 29, 21, 4, 182, 0, 164, 54, 5, 21, 5, 2, 160, 0, 5, 9, 173, 42, 180, 0, 20, 27]
abbrev dktX3_get_0 : List UInt8 := dkwX3_get_0 ++ dktX3_get_1
theorem dksX3_get_0 : cX3_get.data.toList.drop 0 = dktX3_get_0 := by decide +kernel
theorem dksX3_get_1 : cX3_get.data.toList.drop 24 = dktX3_get_1 := dk_seg dksX3_get_0 24 rfl rfl
theorem dksX3_get_2 : cX3_get.data.toList.drop 48 = dktX3_get_2 := dk_seg dksX3_get_1 24 rfl rfl
theorem dX3_get_0 : decode cX3_get 0 = .ok (.aload_n 0, 1) := dk_42 (dk_at dksX3_get_0 0 rfl rfl)
theorem dX3_get_1 : decode cX3_get 1 = .ok (.iload_n 1, 1) := dk_27 (dk_at dksX3_get_0 1 rfl rfl)
theorem dX3_get_2 : decode cX3_get 2 = .ok (.iload_n 2, 1) := dk_28 (dk_at dksX3_get_0 2 rfl rfl)
theorem dX3_get_3 : decode cX3_get 3 = .ok (.iload_n 3, 1) := dk_29 (dk_at dksX3_get_0 3 rfl rfl)
theorem dX3_get_4 : decode cX3_get 4 = .ok (.iload 4, 2) := dk_21 4 (dk_at dksX3_get_0 4 rfl rfl)
theorem dX3_get_6 : decode cX3_get 6 = .ok (.invokevirtual 164, 3) := dk_182 0 164 (dk_at dksX3_get_0 6 rfl rfl)
theorem dX3_get_9 : decode cX3_get 9 = .ok (.istore 5, 2) := dk_54 5 (dk_at dksX3_get_0 9 rfl rfl)
theorem dX3_get_11 : decode cX3_get 11 = .ok (.iload 5, 2) := dk_21 5 (dk_at dksX3_get_0 11 rfl rfl)
theorem dX3_get_13 : decode cX3_get 13 = .ok (.iconst (-1), 1) := dk_2 (dk_at dksX3_get_0 13 rfl rfl)
theorem dX3_get_14 : decode cX3_get 14 = .ok (.if_icmp .ne 5, 3) := dk_160 0 5 (dk_at dksX3_get_0 14 rfl rfl)
theorem dX3_get_17 : decode cX3_get 17 = .ok (.lconst 0, 1) := dk_9 (dk_at dksX3_get_0 17 rfl rfl)
theorem dX3_get_18 : decode cX3_get 18 = .ok (.lreturn, 1) := dk_173 (dk_at dksX3_get_0 18 rfl rfl)
theorem dX3_get_19 : decode cX3_get 19 = .ok (.aload_n 0, 1) := dk_42 (dk_at dksX3_get_0 19 rfl rfl)
theorem dX3_get_20 : decode cX3_get 20 = .ok (.getfield 20, 3) := dk_180 0 20 (dk_at dksX3_get_0 20 rfl rfl)
theorem dX3_get_23 : decode cX3_get 23 = .ok (.iload_n 1, 1) := dk_27 (dk_at dksX3_get_0 23 rfl rfl)
theorem dX3_get_24 : decode cX3_get 24 = .ok (.iaload, 1) := dk_46 (dk_at dksX3_get_1 0 rfl rfl)
theorem dX3_get_25 : decode cX3_get 25 = .ok (.iconst 3, 1) := dk_6 (dk_at dksX3_get_1 1 rfl rfl)
theorem dX3_get_26 : decode cX3_get 26 = .ok (.if_icmp .ne 20, 3) := dk_160 0 20 (dk_at dksX3_get_1 2 rfl rfl)
theorem dX3_get_29 : decode cX3_get 29 = .ok (.aload_n 0, 1) := dk_42 (dk_at dksX3_get_1 5 rfl rfl)
theorem dX3_get_30 : decode cX3_get 30 = .ok (.getfield 46, 3) := dk_180 0 46 (dk_at dksX3_get_1 6 rfl rfl)
theorem dX3_get_33 : decode cX3_get 33 = .ok (.iload 5, 2) := dk_21 5 (dk_at dksX3_get_1 9 rfl rfl)
theorem dX3_get_35 : decode cX3_get 35 = .ok (.baload, 1) := dk_51 (dk_at dksX3_get_1 11 rfl rfl)
theorem dX3_get_36 : decode cX3_get 36 = .ok (.ifCond .ne 10, 3) := dk_154 0 10 (dk_at dksX3_get_1 12 rfl rfl)
theorem dX3_get_39 : decode cX3_get 39 = .ok (.aload_n 0, 1) := dk_42 (dk_at dksX3_get_1 15 rfl rfl)
theorem dX3_get_40 : decode cX3_get 40 = .ok (.iconst 1, 1) := dk_4 (dk_at dksX3_get_1 16 rfl rfl)
theorem dX3_get_41 : decode cX3_get 41 = .ok (.invokevirtual 68, 3) := dk_182 0 68 (dk_at dksX3_get_1 17 rfl rfl)
theorem dX3_get_44 : decode cX3_get 44 = .ok (.i2l, 1) := dk_133 (dk_at dksX3_get_1 20 rfl rfl)
theorem dX3_get_45 : decode cX3_get 45 = .ok (.lreturn, 1) := dk_173 (dk_at dksX3_get_1 21 rfl rfl)
theorem dX3_get_46 : decode cX3_get 46 = .ok (.aload_n 0, 1) := dk_42 (dk_at dksX3_get_1 22 rfl rfl)
theorem dX3_get_47 : decode cX3_get 47 = .ok (.iconst 0, 1) := dk_3 (dk_at dksX3_get_1 23 rfl rfl)
theorem dX3_get_48 : decode cX3_get 48 = .ok (.putfield 65, 3) := dk_181 0 65 (dk_at dksX3_get_2 0 rfl rfl)
theorem dX3_get_51 : decode cX3_get 51 = .ok (.aload_n 0, 1) := dk_42 (dk_at dksX3_get_2 3 rfl rfl)
theorem dX3_get_52 : decode cX3_get 52 = .ok (.getfield 42, 3) := dk_180 0 42 (dk_at dksX3_get_2 4 rfl rfl)
theorem dX3_get_55 : decode cX3_get 55 = .ok (.iload 5, 2) := dk_21 5 (dk_at dksX3_get_2 7 rfl rfl)
theorem dX3_get_57 : decode cX3_get 57 = .ok (.laload, 1) := dk_47 (dk_at dksX3_get_2 9 rfl rfl)
theorem dX3_get_58 : decode cX3_get 58 = .ok (.lreturn, 1) := dk_173 (dk_at dksX3_get_2 10 rfl rfl)
abbrev cX3_find : ByteArray := prog_6_method_36_code
def yX3_find : MethodName := ⟨RX3, "find", "(IIII)I"⟩
def dkwX3_find_7 : List UInt8 := [22, 6, 136, 96, 172]
abbrev dktX3_find_7 : List UInt8 := dkwX3_find_7 ++ []
def dkwX3_find_6 : List UInt8 := [100, 133, 184, 0, 101, 154, 0, 12, 42, 4, 182, 0, 152, 54, 8, 2, 172, 42, 180, 0, 35, 21, 5, 46]
abbrev dktX3_find_6 : List UInt8 := dkwX3_find_6 ++ dktX3_find_7
def dkwX3_find_5 : List UInt8 := [180, 0, 26, 6, 27, 104, 4, 96, 46, 133, 101, 55, 6, 22, 6, 9, 42, 180, 0, 38, 21, 5, 46, 4]
abbrev dktX3_find_5 : List UInt8 := dkwX3_find_5 ++ dktX3_find_6
def dkwX3_find_4 : List UInt8 := [27, 28, 182, 0, 161, 46, 54, 5, 21, 5, 2, 160, 0, 10, 42, 4, 181, 0, 65, 2, 172, 29, 133, 42]
abbrev dktX3_find_4 : List UInt8 := dkwX3_find_4 ++ dktX3_find_5
def dkwX3_find_3 : List UInt8 := [172, 42, 27, 28, 182, 0, 158, 153, 0, 12, 42, 3, 182, 0, 152, 54, 5, 2, 172, 42, 180, 0, 50, 42]
abbrev dktX3_find_3 : List UInt8 := dkwX3_find_3 ++ dktX3_find_4
def dkwX3_find_2 : List UInt8 := [180, 0, 142, 182, 0, 152, 54, 6, 2, 172, 42, 180, 0, 35, 42, 180, 0, 32, 27, 46, 46, 21, 5, 96]
abbrev dktX3_find_2 : List UInt8 := dkwX3_find_2 ++ dktX3_find_3
def dkwX3_find_1 : List UInt8 := [159, 0, 47, 42, 27, 28, 29, 21, 4, 182, 0, 148, 54, 5, 21, 5, 2, 160, 0, 15, 42, 42]
abbrev dktX3_find_1 : List UInt8 := dkwX3_find_1 ++ dktX3_find_2
def dkwX3_find_0 : List UInt8 := [42, 27, 182, 0, 131, 154, 0, 11, 42, 16, 7, 181, 0, 65, 2, 172, 42, 180, 0, 20, 27, 46, 7]
abbrev dktX3_find_0 : List UInt8 := dkwX3_find_0 ++ dktX3_find_1
theorem dksX3_find_0 : cX3_find.data.toList.drop 0 = dktX3_find_0 := by decide +kernel
theorem dksX3_find_1 : cX3_find.data.toList.drop 23 = dktX3_find_1 := dk_seg dksX3_find_0 23 rfl rfl
theorem dksX3_find_2 : cX3_find.data.toList.drop 45 = dktX3_find_2 := dk_seg dksX3_find_1 22 rfl rfl
theorem dksX3_find_3 : cX3_find.data.toList.drop 69 = dktX3_find_3 := dk_seg dksX3_find_2 24 rfl rfl
theorem dksX3_find_4 : cX3_find.data.toList.drop 93 = dktX3_find_4 := dk_seg dksX3_find_3 24 rfl rfl
theorem dksX3_find_5 : cX3_find.data.toList.drop 117 = dktX3_find_5 := dk_seg dksX3_find_4 24 rfl rfl
theorem dksX3_find_6 : cX3_find.data.toList.drop 141 = dktX3_find_6 := dk_seg dksX3_find_5 24 rfl rfl
theorem dksX3_find_7 : cX3_find.data.toList.drop 165 = dktX3_find_7 := dk_seg dksX3_find_6 24 rfl rfl
theorem dX3_find_0 : decode cX3_find 0 = .ok (.aload_n 0, 1) := dk_42 (dk_at dksX3_find_0 0 rfl rfl)
theorem dX3_find_1 : decode cX3_find 1 = .ok (.iload_n 1, 1) := dk_27 (dk_at dksX3_find_0 1 rfl rfl)
theorem dX3_find_2 : decode cX3_find 2 = .ok (.invokevirtual 131, 3) := dk_182 0 131 (dk_at dksX3_find_0 2 rfl rfl)
theorem dX3_find_5 : decode cX3_find 5 = .ok (.ifCond .ne 11, 3) := dk_154 0 11 (dk_at dksX3_find_0 5 rfl rfl)
theorem dX3_find_8 : decode cX3_find 8 = .ok (.aload_n 0, 1) := dk_42 (dk_at dksX3_find_0 8 rfl rfl)
theorem dX3_find_9 : decode cX3_find 9 = .ok (.bipush 7, 2) := dk_16 7 (dk_at dksX3_find_0 9 rfl rfl)
theorem dX3_find_11 : decode cX3_find 11 = .ok (.putfield 65, 3) := dk_181 0 65 (dk_at dksX3_find_0 11 rfl rfl)
theorem dX3_find_14 : decode cX3_find 14 = .ok (.iconst (-1), 1) := dk_2 (dk_at dksX3_find_0 14 rfl rfl)
theorem dX3_find_15 : decode cX3_find 15 = .ok (.ireturn, 1) := dk_172 (dk_at dksX3_find_0 15 rfl rfl)
theorem dX3_find_16 : decode cX3_find 16 = .ok (.aload_n 0, 1) := dk_42 (dk_at dksX3_find_0 16 rfl rfl)
theorem dX3_find_17 : decode cX3_find 17 = .ok (.getfield 20, 3) := dk_180 0 20 (dk_at dksX3_find_0 17 rfl rfl)
theorem dX3_find_20 : decode cX3_find 20 = .ok (.iload_n 1, 1) := dk_27 (dk_at dksX3_find_0 20 rfl rfl)
theorem dX3_find_21 : decode cX3_find 21 = .ok (.iaload, 1) := dk_46 (dk_at dksX3_find_0 21 rfl rfl)
theorem dX3_find_22 : decode cX3_find 22 = .ok (.iconst 4, 1) := dk_7 (dk_at dksX3_find_0 22 rfl rfl)
theorem dX3_find_23 : decode cX3_find 23 = .ok (.if_icmp .eq 47, 3) := dk_159 0 47 (dk_at dksX3_find_1 0 rfl rfl)
theorem dX3_find_26 : decode cX3_find 26 = .ok (.aload_n 0, 1) := dk_42 (dk_at dksX3_find_1 3 rfl rfl)
theorem dX3_find_27 : decode cX3_find 27 = .ok (.iload_n 1, 1) := dk_27 (dk_at dksX3_find_1 4 rfl rfl)
theorem dX3_find_28 : decode cX3_find 28 = .ok (.iload_n 2, 1) := dk_28 (dk_at dksX3_find_1 5 rfl rfl)
theorem dX3_find_29 : decode cX3_find 29 = .ok (.iload_n 3, 1) := dk_29 (dk_at dksX3_find_1 6 rfl rfl)
theorem dX3_find_30 : decode cX3_find 30 = .ok (.iload 4, 2) := dk_21 4 (dk_at dksX3_find_1 7 rfl rfl)
theorem dX3_find_32 : decode cX3_find 32 = .ok (.invokevirtual 148, 3) := dk_182 0 148 (dk_at dksX3_find_1 9 rfl rfl)
theorem dX3_find_35 : decode cX3_find 35 = .ok (.istore 5, 2) := dk_54 5 (dk_at dksX3_find_1 12 rfl rfl)
theorem dX3_find_37 : decode cX3_find 37 = .ok (.iload 5, 2) := dk_21 5 (dk_at dksX3_find_1 14 rfl rfl)
theorem dX3_find_39 : decode cX3_find 39 = .ok (.iconst (-1), 1) := dk_2 (dk_at dksX3_find_1 16 rfl rfl)
theorem dX3_find_40 : decode cX3_find 40 = .ok (.if_icmp .ne 15, 3) := dk_160 0 15 (dk_at dksX3_find_1 17 rfl rfl)
theorem dX3_find_43 : decode cX3_find 43 = .ok (.aload_n 0, 1) := dk_42 (dk_at dksX3_find_1 20 rfl rfl)
theorem dX3_find_44 : decode cX3_find 44 = .ok (.aload_n 0, 1) := dk_42 (dk_at dksX3_find_1 21 rfl rfl)
theorem dX3_find_45 : decode cX3_find 45 = .ok (.getfield 142, 3) := dk_180 0 142 (dk_at dksX3_find_2 0 rfl rfl)
theorem dX3_find_48 : decode cX3_find 48 = .ok (.invokevirtual 152, 3) := dk_182 0 152 (dk_at dksX3_find_2 3 rfl rfl)
theorem dX3_find_51 : decode cX3_find 51 = .ok (.istore 6, 2) := dk_54 6 (dk_at dksX3_find_2 6 rfl rfl)
theorem dX3_find_53 : decode cX3_find 53 = .ok (.iconst (-1), 1) := dk_2 (dk_at dksX3_find_2 8 rfl rfl)
theorem dX3_find_54 : decode cX3_find 54 = .ok (.ireturn, 1) := dk_172 (dk_at dksX3_find_2 9 rfl rfl)
theorem dX3_find_55 : decode cX3_find 55 = .ok (.aload_n 0, 1) := dk_42 (dk_at dksX3_find_2 10 rfl rfl)
theorem dX3_find_56 : decode cX3_find 56 = .ok (.getfield 35, 3) := dk_180 0 35 (dk_at dksX3_find_2 11 rfl rfl)
theorem dX3_find_59 : decode cX3_find 59 = .ok (.aload_n 0, 1) := dk_42 (dk_at dksX3_find_2 14 rfl rfl)
theorem dX3_find_60 : decode cX3_find 60 = .ok (.getfield 32, 3) := dk_180 0 32 (dk_at dksX3_find_2 15 rfl rfl)
theorem dX3_find_63 : decode cX3_find 63 = .ok (.iload_n 1, 1) := dk_27 (dk_at dksX3_find_2 18 rfl rfl)
theorem dX3_find_64 : decode cX3_find 64 = .ok (.iaload, 1) := dk_46 (dk_at dksX3_find_2 19 rfl rfl)
theorem dX3_find_65 : decode cX3_find 65 = .ok (.iaload, 1) := dk_46 (dk_at dksX3_find_2 20 rfl rfl)
theorem dX3_find_66 : decode cX3_find 66 = .ok (.iload 5, 2) := dk_21 5 (dk_at dksX3_find_2 21 rfl rfl)
theorem dX3_find_68 : decode cX3_find 68 = .ok (.iadd, 1) := dk_96 (dk_at dksX3_find_2 23 rfl rfl)
theorem dX3_find_69 : decode cX3_find 69 = .ok (.ireturn, 1) := dk_172 (dk_at dksX3_find_3 0 rfl rfl)
theorem dX3_find_70 : decode cX3_find 70 = .ok (.aload_n 0, 1) := dk_42 (dk_at dksX3_find_3 1 rfl rfl)
theorem dX3_find_71 : decode cX3_find 71 = .ok (.iload_n 1, 1) := dk_27 (dk_at dksX3_find_3 2 rfl rfl)
theorem dX3_find_72 : decode cX3_find 72 = .ok (.iload_n 2, 1) := dk_28 (dk_at dksX3_find_3 3 rfl rfl)
theorem dX3_find_73 : decode cX3_find 73 = .ok (.invokevirtual 158, 3) := dk_182 0 158 (dk_at dksX3_find_3 4 rfl rfl)
theorem dX3_find_76 : decode cX3_find 76 = .ok (.ifCond .eq 12, 3) := dk_153 0 12 (dk_at dksX3_find_3 7 rfl rfl)
theorem dX3_find_79 : decode cX3_find 79 = .ok (.aload_n 0, 1) := dk_42 (dk_at dksX3_find_3 10 rfl rfl)
theorem dX3_find_80 : decode cX3_find 80 = .ok (.iconst 0, 1) := dk_3 (dk_at dksX3_find_3 11 rfl rfl)
theorem dX3_find_81 : decode cX3_find 81 = .ok (.invokevirtual 152, 3) := dk_182 0 152 (dk_at dksX3_find_3 12 rfl rfl)
theorem dX3_find_84 : decode cX3_find 84 = .ok (.istore 5, 2) := dk_54 5 (dk_at dksX3_find_3 15 rfl rfl)
theorem dX3_find_86 : decode cX3_find 86 = .ok (.iconst (-1), 1) := dk_2 (dk_at dksX3_find_3 17 rfl rfl)
theorem dX3_find_87 : decode cX3_find 87 = .ok (.ireturn, 1) := dk_172 (dk_at dksX3_find_3 18 rfl rfl)
theorem dX3_find_88 : decode cX3_find 88 = .ok (.aload_n 0, 1) := dk_42 (dk_at dksX3_find_3 19 rfl rfl)
theorem dX3_find_89 : decode cX3_find 89 = .ok (.getfield 50, 3) := dk_180 0 50 (dk_at dksX3_find_3 20 rfl rfl)
theorem dX3_find_92 : decode cX3_find 92 = .ok (.aload_n 0, 1) := dk_42 (dk_at dksX3_find_3 23 rfl rfl)
theorem dX3_find_93 : decode cX3_find 93 = .ok (.iload_n 1, 1) := dk_27 (dk_at dksX3_find_4 0 rfl rfl)
theorem dX3_find_94 : decode cX3_find 94 = .ok (.iload_n 2, 1) := dk_28 (dk_at dksX3_find_4 1 rfl rfl)
theorem dX3_find_95 : decode cX3_find 95 = .ok (.invokevirtual 161, 3) := dk_182 0 161 (dk_at dksX3_find_4 2 rfl rfl)
theorem dX3_find_98 : decode cX3_find 98 = .ok (.iaload, 1) := dk_46 (dk_at dksX3_find_4 5 rfl rfl)
theorem dX3_find_99 : decode cX3_find 99 = .ok (.istore 5, 2) := dk_54 5 (dk_at dksX3_find_4 6 rfl rfl)
theorem dX3_find_101 : decode cX3_find 101 = .ok (.iload 5, 2) := dk_21 5 (dk_at dksX3_find_4 8 rfl rfl)
theorem dX3_find_103 : decode cX3_find 103 = .ok (.iconst (-1), 1) := dk_2 (dk_at dksX3_find_4 10 rfl rfl)
theorem dX3_find_104 : decode cX3_find 104 = .ok (.if_icmp .ne 10, 3) := dk_160 0 10 (dk_at dksX3_find_4 11 rfl rfl)
theorem dX3_find_107 : decode cX3_find 107 = .ok (.aload_n 0, 1) := dk_42 (dk_at dksX3_find_4 14 rfl rfl)
theorem dX3_find_108 : decode cX3_find 108 = .ok (.iconst 1, 1) := dk_4 (dk_at dksX3_find_4 15 rfl rfl)
theorem dX3_find_109 : decode cX3_find 109 = .ok (.putfield 65, 3) := dk_181 0 65 (dk_at dksX3_find_4 16 rfl rfl)
theorem dX3_find_112 : decode cX3_find 112 = .ok (.iconst (-1), 1) := dk_2 (dk_at dksX3_find_4 19 rfl rfl)
theorem dX3_find_113 : decode cX3_find 113 = .ok (.ireturn, 1) := dk_172 (dk_at dksX3_find_4 20 rfl rfl)
theorem dX3_find_114 : decode cX3_find 114 = .ok (.iload_n 3, 1) := dk_29 (dk_at dksX3_find_4 21 rfl rfl)
theorem dX3_find_115 : decode cX3_find 115 = .ok (.i2l, 1) := dk_133 (dk_at dksX3_find_4 22 rfl rfl)
theorem dX3_find_116 : decode cX3_find 116 = .ok (.aload_n 0, 1) := dk_42 (dk_at dksX3_find_4 23 rfl rfl)
theorem dX3_find_117 : decode cX3_find 117 = .ok (.getfield 26, 3) := dk_180 0 26 (dk_at dksX3_find_5 0 rfl rfl)
theorem dX3_find_120 : decode cX3_find 120 = .ok (.iconst 3, 1) := dk_6 (dk_at dksX3_find_5 3 rfl rfl)
theorem dX3_find_121 : decode cX3_find 121 = .ok (.iload_n 1, 1) := dk_27 (dk_at dksX3_find_5 4 rfl rfl)
theorem dX3_find_122 : decode cX3_find 122 = .ok (.imul, 1) := dk_104 (dk_at dksX3_find_5 5 rfl rfl)
theorem dX3_find_123 : decode cX3_find 123 = .ok (.iconst 1, 1) := dk_4 (dk_at dksX3_find_5 6 rfl rfl)
theorem dX3_find_124 : decode cX3_find 124 = .ok (.iadd, 1) := dk_96 (dk_at dksX3_find_5 7 rfl rfl)
theorem dX3_find_125 : decode cX3_find 125 = .ok (.iaload, 1) := dk_46 (dk_at dksX3_find_5 8 rfl rfl)
theorem dX3_find_126 : decode cX3_find 126 = .ok (.i2l, 1) := dk_133 (dk_at dksX3_find_5 9 rfl rfl)
theorem dX3_find_127 : decode cX3_find 127 = .ok (.lsub, 1) := dk_101 (dk_at dksX3_find_5 10 rfl rfl)
theorem dX3_find_128 : decode cX3_find 128 = .ok (.lstore 6, 2) := dk_55 6 (dk_at dksX3_find_5 11 rfl rfl)
theorem dX3_find_130 : decode cX3_find 130 = .ok (.lload 6, 2) := dk_22 6 (dk_at dksX3_find_5 13 rfl rfl)
theorem dX3_find_132 : decode cX3_find 132 = .ok (.lconst 0, 1) := dk_9 (dk_at dksX3_find_5 15 rfl rfl)
theorem dX3_find_133 : decode cX3_find 133 = .ok (.aload_n 0, 1) := dk_42 (dk_at dksX3_find_5 16 rfl rfl)
theorem dX3_find_134 : decode cX3_find 134 = .ok (.getfield 38, 3) := dk_180 0 38 (dk_at dksX3_find_5 17 rfl rfl)
theorem dX3_find_137 : decode cX3_find 137 = .ok (.iload 5, 2) := dk_21 5 (dk_at dksX3_find_5 20 rfl rfl)
theorem dX3_find_139 : decode cX3_find 139 = .ok (.iaload, 1) := dk_46 (dk_at dksX3_find_5 22 rfl rfl)
theorem dX3_find_140 : decode cX3_find 140 = .ok (.iconst 1, 1) := dk_4 (dk_at dksX3_find_5 23 rfl rfl)
theorem dX3_find_141 : decode cX3_find 141 = .ok (.isub, 1) := dk_100 (dk_at dksX3_find_6 0 rfl rfl)
theorem dX3_find_142 : decode cX3_find 142 = .ok (.i2l, 1) := dk_133 (dk_at dksX3_find_6 1 rfl rfl)
theorem dX3_find_143 : decode cX3_find 143 = .ok (.invokestatic 101, 3) := dk_184 0 101 (dk_at dksX3_find_6 2 rfl rfl)
theorem dX3_find_146 : decode cX3_find 146 = .ok (.ifCond .ne 12, 3) := dk_154 0 12 (dk_at dksX3_find_6 5 rfl rfl)
theorem dX3_find_149 : decode cX3_find 149 = .ok (.aload_n 0, 1) := dk_42 (dk_at dksX3_find_6 8 rfl rfl)
theorem dX3_find_150 : decode cX3_find 150 = .ok (.iconst 1, 1) := dk_4 (dk_at dksX3_find_6 9 rfl rfl)
theorem dX3_find_151 : decode cX3_find 151 = .ok (.invokevirtual 152, 3) := dk_182 0 152 (dk_at dksX3_find_6 10 rfl rfl)
theorem dX3_find_154 : decode cX3_find 154 = .ok (.istore 8, 2) := dk_54 8 (dk_at dksX3_find_6 13 rfl rfl)
theorem dX3_find_156 : decode cX3_find 156 = .ok (.iconst (-1), 1) := dk_2 (dk_at dksX3_find_6 15 rfl rfl)
theorem dX3_find_157 : decode cX3_find 157 = .ok (.ireturn, 1) := dk_172 (dk_at dksX3_find_6 16 rfl rfl)
theorem dX3_find_158 : decode cX3_find 158 = .ok (.aload_n 0, 1) := dk_42 (dk_at dksX3_find_6 17 rfl rfl)
theorem dX3_find_159 : decode cX3_find 159 = .ok (.getfield 35, 3) := dk_180 0 35 (dk_at dksX3_find_6 18 rfl rfl)
theorem dX3_find_162 : decode cX3_find 162 = .ok (.iload 5, 2) := dk_21 5 (dk_at dksX3_find_6 21 rfl rfl)
theorem dX3_find_164 : decode cX3_find 164 = .ok (.iaload, 1) := dk_46 (dk_at dksX3_find_6 23 rfl rfl)
theorem dX3_find_165 : decode cX3_find 165 = .ok (.lload 6, 2) := dk_22 6 (dk_at dksX3_find_7 0 rfl rfl)
theorem dX3_find_167 : decode cX3_find 167 = .ok (.l2i, 1) := dk_136 (dk_at dksX3_find_7 2 rfl rfl)
theorem dX3_find_168 : decode cX3_find 168 = .ok (.iadd, 1) := dk_96 (dk_at dksX3_find_7 3 rfl rfl)
theorem dX3_find_169 : decode cX3_find 169 = .ok (.ireturn, 1) := dk_172 (dk_at dksX3_find_7 4 rfl rfl)
abbrev cX3_put : ByteArray := prog_6_method_39_code
def yX3_put : MethodName := ⟨RX3, "put", "(IIIIJ)I"⟩
def dkwX3_put_1 : List UInt8 := [180, 0, 20, 27, 46, 22, 5, 182, 0, 171, 42, 4, 182, 0, 75, 172]
abbrev dktX3_put_1 : List UInt8 := dkwX3_put_1 ++ []
def dkwX3_put_0 : List UInt8 := [42, 27, 28, 29, 21, 4, 182, 0, 164, 54, 7, 21, 7, 2, 160, 0, 5, 3, 172, 42, 21, 7, 42]
abbrev dktX3_put_0 : List UInt8 := dkwX3_put_0 ++ dktX3_put_1
theorem dksX3_put_0 : cX3_put.data.toList.drop 0 = dktX3_put_0 := by decide +kernel
theorem dksX3_put_1 : cX3_put.data.toList.drop 23 = dktX3_put_1 := dk_seg dksX3_put_0 23 rfl rfl
theorem dX3_put_0 : decode cX3_put 0 = .ok (.aload_n 0, 1) := dk_42 (dk_at dksX3_put_0 0 rfl rfl)
theorem dX3_put_1 : decode cX3_put 1 = .ok (.iload_n 1, 1) := dk_27 (dk_at dksX3_put_0 1 rfl rfl)
theorem dX3_put_2 : decode cX3_put 2 = .ok (.iload_n 2, 1) := dk_28 (dk_at dksX3_put_0 2 rfl rfl)
theorem dX3_put_3 : decode cX3_put 3 = .ok (.iload_n 3, 1) := dk_29 (dk_at dksX3_put_0 3 rfl rfl)
theorem dX3_put_4 : decode cX3_put 4 = .ok (.iload 4, 2) := dk_21 4 (dk_at dksX3_put_0 4 rfl rfl)
theorem dX3_put_6 : decode cX3_put 6 = .ok (.invokevirtual 164, 3) := dk_182 0 164 (dk_at dksX3_put_0 6 rfl rfl)
theorem dX3_put_9 : decode cX3_put 9 = .ok (.istore 7, 2) := dk_54 7 (dk_at dksX3_put_0 9 rfl rfl)
theorem dX3_put_11 : decode cX3_put 11 = .ok (.iload 7, 2) := dk_21 7 (dk_at dksX3_put_0 11 rfl rfl)
theorem dX3_put_13 : decode cX3_put 13 = .ok (.iconst (-1), 1) := dk_2 (dk_at dksX3_put_0 13 rfl rfl)
theorem dX3_put_14 : decode cX3_put 14 = .ok (.if_icmp .ne 5, 3) := dk_160 0 5 (dk_at dksX3_put_0 14 rfl rfl)
theorem dX3_put_17 : decode cX3_put 17 = .ok (.iconst 0, 1) := dk_3 (dk_at dksX3_put_0 17 rfl rfl)
theorem dX3_put_18 : decode cX3_put 18 = .ok (.ireturn, 1) := dk_172 (dk_at dksX3_put_0 18 rfl rfl)
theorem dX3_put_19 : decode cX3_put 19 = .ok (.aload_n 0, 1) := dk_42 (dk_at dksX3_put_0 19 rfl rfl)
theorem dX3_put_20 : decode cX3_put 20 = .ok (.iload 7, 2) := dk_21 7 (dk_at dksX3_put_0 20 rfl rfl)
theorem dX3_put_22 : decode cX3_put 22 = .ok (.aload_n 0, 1) := dk_42 (dk_at dksX3_put_0 22 rfl rfl)
theorem dX3_put_23 : decode cX3_put 23 = .ok (.getfield 20, 3) := dk_180 0 20 (dk_at dksX3_put_1 0 rfl rfl)
theorem dX3_put_26 : decode cX3_put 26 = .ok (.iload_n 1, 1) := dk_27 (dk_at dksX3_put_1 3 rfl rfl)
theorem dX3_put_27 : decode cX3_put 27 = .ok (.iaload, 1) := dk_46 (dk_at dksX3_put_1 4 rfl rfl)
theorem dX3_put_28 : decode cX3_put 28 = .ok (.lload 5, 2) := dk_22 5 (dk_at dksX3_put_1 5 rfl rfl)
theorem dX3_put_30 : decode cX3_put 30 = .ok (.invokevirtual 171, 3) := dk_182 0 171 (dk_at dksX3_put_1 7 rfl rfl)
theorem dX3_put_33 : decode cX3_put 33 = .ok (.aload_n 0, 1) := dk_42 (dk_at dksX3_put_1 10 rfl rfl)
theorem dX3_put_34 : decode cX3_put 34 = .ok (.iconst 1, 1) := dk_4 (dk_at dksX3_put_1 11 rfl rfl)
theorem dX3_put_35 : decode cX3_put 35 = .ok (.invokevirtual 75, 3) := dk_182 0 75 (dk_at dksX3_put_1 12 rfl rfl)
theorem dX3_put_38 : decode cX3_put 38 = .ok (.ireturn, 1) := dk_172 (dk_at dksX3_put_1 15 rfl rfl)
abbrev cX3_lay : ByteArray := prog_6_method_38_code
def yX3_lay : MethodName := ⟨RX3, "lay", "(IIJ)V"⟩
def dkwX3_lay_1 : List UInt8 := [167, 0, 4, 3, 84, 177]
abbrev dktX3_lay_1 : List UInt8 := dkwX3_lay_1 ++ []
def dkwX3_lay_0 : List UInt8 := [42, 180, 0, 42, 27, 28, 33, 184, 0, 167, 80, 42, 180, 0, 46, 27, 28, 6, 160, 0, 7, 4]
abbrev dktX3_lay_0 : List UInt8 := dkwX3_lay_0 ++ dktX3_lay_1
theorem dksX3_lay_0 : cX3_lay.data.toList.drop 0 = dktX3_lay_0 := by decide +kernel
theorem dksX3_lay_1 : cX3_lay.data.toList.drop 22 = dktX3_lay_1 := dk_seg dksX3_lay_0 22 rfl rfl
theorem dX3_lay_0 : decode cX3_lay 0 = .ok (.aload_n 0, 1) := dk_42 (dk_at dksX3_lay_0 0 rfl rfl)
theorem dX3_lay_1 : decode cX3_lay 1 = .ok (.getfield 42, 3) := dk_180 0 42 (dk_at dksX3_lay_0 1 rfl rfl)
theorem dX3_lay_4 : decode cX3_lay 4 = .ok (.iload_n 1, 1) := dk_27 (dk_at dksX3_lay_0 4 rfl rfl)
theorem dX3_lay_5 : decode cX3_lay 5 = .ok (.iload_n 2, 1) := dk_28 (dk_at dksX3_lay_0 5 rfl rfl)
theorem dX3_lay_6 : decode cX3_lay 6 = .ok (.lload_n 3, 1) := dk_33 (dk_at dksX3_lay_0 6 rfl rfl)
theorem dX3_lay_7 : decode cX3_lay 7 = .ok (.invokestatic 167, 3) := dk_184 0 167 (dk_at dksX3_lay_0 7 rfl rfl)
theorem dX3_lay_10 : decode cX3_lay 10 = .ok (.lastore, 1) := dk_80 (dk_at dksX3_lay_0 10 rfl rfl)
theorem dX3_lay_11 : decode cX3_lay 11 = .ok (.aload_n 0, 1) := dk_42 (dk_at dksX3_lay_0 11 rfl rfl)
theorem dX3_lay_12 : decode cX3_lay 12 = .ok (.getfield 46, 3) := dk_180 0 46 (dk_at dksX3_lay_0 12 rfl rfl)
theorem dX3_lay_15 : decode cX3_lay 15 = .ok (.iload_n 1, 1) := dk_27 (dk_at dksX3_lay_0 15 rfl rfl)
theorem dX3_lay_16 : decode cX3_lay 16 = .ok (.iload_n 2, 1) := dk_28 (dk_at dksX3_lay_0 16 rfl rfl)
theorem dX3_lay_17 : decode cX3_lay 17 = .ok (.iconst 3, 1) := dk_6 (dk_at dksX3_lay_0 17 rfl rfl)
theorem dX3_lay_18 : decode cX3_lay 18 = .ok (.if_icmp .ne 7, 3) := dk_160 0 7 (dk_at dksX3_lay_0 18 rfl rfl)
theorem dX3_lay_21 : decode cX3_lay 21 = .ok (.iconst 1, 1) := dk_4 (dk_at dksX3_lay_0 21 rfl rfl)
theorem dX3_lay_22 : decode cX3_lay 22 = .ok (.goto 4, 3) := dk_167 0 4 (dk_at dksX3_lay_1 0 rfl rfl)
theorem dX3_lay_25 : decode cX3_lay 25 = .ok (.iconst 0, 1) := dk_3 (dk_at dksX3_lay_1 3 rfl rfl)
theorem dX3_lay_26 : decode cX3_lay 26 = .ok (.bastore, 1) := dk_84 (dk_at dksX3_lay_1 4 rfl rfl)
theorem dX3_lay_27 : decode cX3_lay 27 = .ok (.return_, 1) := dk_177 (dk_at dksX3_lay_1 5 rfl rfl)
abbrev cX3_as : ByteArray := prog_6_method_15_code
def yX3_as : MethodName := ⟨RX3, "as", "(IJ)J"⟩
def dkwX3_as_1 : List UInt8 := [167, 0, 4, 33, 173, 26, 4, 159, 0, 8, 26, 7, 160, 0, 9, 31, 136, 133, 167, 0, 4, 31, 173]
abbrev dktX3_as_1 : List UInt8 := dkwX3_as_1 ++ []
def dkwX3_as_0 : List UInt8 := [26, 154, 0, 27, 31, 20, 0, 92, 127, 66, 33, 20, 0, 94, 148, 158, 0, 11, 33, 20, 0, 96, 101]
abbrev dktX3_as_0 : List UInt8 := dkwX3_as_0 ++ dktX3_as_1
theorem dksX3_as_0 : cX3_as.data.toList.drop 0 = dktX3_as_0 := by decide +kernel
theorem dksX3_as_1 : cX3_as.data.toList.drop 23 = dktX3_as_1 := dk_seg dksX3_as_0 23 rfl rfl
theorem dX3_as_0 : decode cX3_as 0 = .ok (.iload_n 0, 1) := dk_26 (dk_at dksX3_as_0 0 rfl rfl)
theorem dX3_as_1 : decode cX3_as 1 = .ok (.ifCond .ne 27, 3) := dk_154 0 27 (dk_at dksX3_as_0 1 rfl rfl)
theorem dX3_as_4 : decode cX3_as 4 = .ok (.lload_n 1, 1) := dk_31 (dk_at dksX3_as_0 4 rfl rfl)
theorem dX3_as_5 : decode cX3_as 5 = .ok (.ldc2_w 92, 3) := dk_20 0 92 (dk_at dksX3_as_0 5 rfl rfl)
theorem dX3_as_8 : decode cX3_as 8 = .ok (.land, 1) := dk_127 (dk_at dksX3_as_0 8 rfl rfl)
theorem dX3_as_9 : decode cX3_as 9 = .ok (.lstore_n 3, 1) := dk_66 (dk_at dksX3_as_0 9 rfl rfl)
theorem dX3_as_10 : decode cX3_as 10 = .ok (.lload_n 3, 1) := dk_33 (dk_at dksX3_as_0 10 rfl rfl)
theorem dX3_as_11 : decode cX3_as 11 = .ok (.ldc2_w 94, 3) := dk_20 0 94 (dk_at dksX3_as_0 11 rfl rfl)
theorem dX3_as_14 : decode cX3_as 14 = .ok (.lcmp, 1) := dk_148 (dk_at dksX3_as_0 14 rfl rfl)
theorem dX3_as_15 : decode cX3_as 15 = .ok (.ifCond .le 11, 3) := dk_158 0 11 (dk_at dksX3_as_0 15 rfl rfl)
theorem dX3_as_18 : decode cX3_as 18 = .ok (.lload_n 3, 1) := dk_33 (dk_at dksX3_as_0 18 rfl rfl)
theorem dX3_as_19 : decode cX3_as 19 = .ok (.ldc2_w 96, 3) := dk_20 0 96 (dk_at dksX3_as_0 19 rfl rfl)
theorem dX3_as_22 : decode cX3_as 22 = .ok (.lsub, 1) := dk_101 (dk_at dksX3_as_0 22 rfl rfl)
theorem dX3_as_23 : decode cX3_as 23 = .ok (.goto 4, 3) := dk_167 0 4 (dk_at dksX3_as_1 0 rfl rfl)
theorem dX3_as_26 : decode cX3_as 26 = .ok (.lload_n 3, 1) := dk_33 (dk_at dksX3_as_1 3 rfl rfl)
theorem dX3_as_27 : decode cX3_as 27 = .ok (.lreturn, 1) := dk_173 (dk_at dksX3_as_1 4 rfl rfl)
theorem dX3_as_28 : decode cX3_as 28 = .ok (.iload_n 0, 1) := dk_26 (dk_at dksX3_as_1 5 rfl rfl)
theorem dX3_as_29 : decode cX3_as 29 = .ok (.iconst 1, 1) := dk_4 (dk_at dksX3_as_1 6 rfl rfl)
theorem dX3_as_30 : decode cX3_as 30 = .ok (.if_icmp .eq 8, 3) := dk_159 0 8 (dk_at dksX3_as_1 7 rfl rfl)
theorem dX3_as_33 : decode cX3_as 33 = .ok (.iload_n 0, 1) := dk_26 (dk_at dksX3_as_1 10 rfl rfl)
theorem dX3_as_34 : decode cX3_as 34 = .ok (.iconst 4, 1) := dk_7 (dk_at dksX3_as_1 11 rfl rfl)
theorem dX3_as_35 : decode cX3_as 35 = .ok (.if_icmp .ne 9, 3) := dk_160 0 9 (dk_at dksX3_as_1 12 rfl rfl)
theorem dX3_as_38 : decode cX3_as 38 = .ok (.lload_n 1, 1) := dk_31 (dk_at dksX3_as_1 15 rfl rfl)
theorem dX3_as_39 : decode cX3_as 39 = .ok (.l2i, 1) := dk_136 (dk_at dksX3_as_1 16 rfl rfl)
theorem dX3_as_40 : decode cX3_as 40 = .ok (.i2l, 1) := dk_133 (dk_at dksX3_as_1 17 rfl rfl)
theorem dX3_as_41 : decode cX3_as 41 = .ok (.goto 4, 3) := dk_167 0 4 (dk_at dksX3_as_1 18 rfl rfl)
theorem dX3_as_44 : decode cX3_as 44 = .ok (.lload_n 1, 1) := dk_31 (dk_at dksX3_as_1 21 rfl rfl)
theorem dX3_as_45 : decode cX3_as 45 = .ok (.lreturn, 1) := dk_173 (dk_at dksX3_as_1 22 rfl rfl)
abbrev cX3_empty : ByteArray := prog_6_method_40_code
def yX3_empty : MethodName := ⟨RX3, "empty", "(IIII)I"⟩
def dkwX3_empty_3 : List UInt8 := [182, 0, 75, 172]
abbrev dktX3_empty_3 : List UInt8 := dkwX3_empty_3 ++ []
def dkwX3_empty_2 : List UInt8 := [160, 0, 5, 3, 172, 42, 180, 0, 42, 21, 5, 9, 80, 42, 180, 0, 46, 21, 5, 3, 84, 42, 4]
abbrev dktX3_empty_2 : List UInt8 := dkwX3_empty_2 ++ dktX3_empty_3
def dkwX3_empty_1 : List UInt8 := [159, 0, 9, 42, 5, 182, 0, 68, 172, 42, 27, 28, 29, 21, 4, 182, 0, 164, 54, 5, 21, 5, 2]
abbrev dktX3_empty_1 : List UInt8 := dkwX3_empty_1 ++ dktX3_empty_2
def dkwX3_empty_0 : List UInt8 := [42, 27, 182, 0, 131, 154, 0, 10, 42, 16, 7, 182, 0, 68, 172, 42, 180, 0, 20, 27, 46, 6]
abbrev dktX3_empty_0 : List UInt8 := dkwX3_empty_0 ++ dktX3_empty_1
theorem dksX3_empty_0 : cX3_empty.data.toList.drop 0 = dktX3_empty_0 := by decide +kernel
theorem dksX3_empty_1 : cX3_empty.data.toList.drop 22 = dktX3_empty_1 := dk_seg dksX3_empty_0 22 rfl rfl
theorem dksX3_empty_2 : cX3_empty.data.toList.drop 45 = dktX3_empty_2 := dk_seg dksX3_empty_1 23 rfl rfl
theorem dksX3_empty_3 : cX3_empty.data.toList.drop 68 = dktX3_empty_3 := dk_seg dksX3_empty_2 23 rfl rfl
theorem dX3_empty_0 : decode cX3_empty 0 = .ok (.aload_n 0, 1) := dk_42 (dk_at dksX3_empty_0 0 rfl rfl)
theorem dX3_empty_1 : decode cX3_empty 1 = .ok (.iload_n 1, 1) := dk_27 (dk_at dksX3_empty_0 1 rfl rfl)
theorem dX3_empty_2 : decode cX3_empty 2 = .ok (.invokevirtual 131, 3) := dk_182 0 131 (dk_at dksX3_empty_0 2 rfl rfl)
theorem dX3_empty_5 : decode cX3_empty 5 = .ok (.ifCond .ne 10, 3) := dk_154 0 10 (dk_at dksX3_empty_0 5 rfl rfl)
theorem dX3_empty_8 : decode cX3_empty 8 = .ok (.aload_n 0, 1) := dk_42 (dk_at dksX3_empty_0 8 rfl rfl)
theorem dX3_empty_9 : decode cX3_empty 9 = .ok (.bipush 7, 2) := dk_16 7 (dk_at dksX3_empty_0 9 rfl rfl)
theorem dX3_empty_11 : decode cX3_empty 11 = .ok (.invokevirtual 68, 3) := dk_182 0 68 (dk_at dksX3_empty_0 11 rfl rfl)
theorem dX3_empty_14 : decode cX3_empty 14 = .ok (.ireturn, 1) := dk_172 (dk_at dksX3_empty_0 14 rfl rfl)
theorem dX3_empty_15 : decode cX3_empty 15 = .ok (.aload_n 0, 1) := dk_42 (dk_at dksX3_empty_0 15 rfl rfl)
theorem dX3_empty_16 : decode cX3_empty 16 = .ok (.getfield 20, 3) := dk_180 0 20 (dk_at dksX3_empty_0 16 rfl rfl)
theorem dX3_empty_19 : decode cX3_empty 19 = .ok (.iload_n 1, 1) := dk_27 (dk_at dksX3_empty_0 19 rfl rfl)
theorem dX3_empty_20 : decode cX3_empty 20 = .ok (.iaload, 1) := dk_46 (dk_at dksX3_empty_0 20 rfl rfl)
theorem dX3_empty_21 : decode cX3_empty 21 = .ok (.iconst 3, 1) := dk_6 (dk_at dksX3_empty_0 21 rfl rfl)
theorem dX3_empty_22 : decode cX3_empty 22 = .ok (.if_icmp .eq 9, 3) := dk_159 0 9 (dk_at dksX3_empty_1 0 rfl rfl)
theorem dX3_empty_25 : decode cX3_empty 25 = .ok (.aload_n 0, 1) := dk_42 (dk_at dksX3_empty_1 3 rfl rfl)
theorem dX3_empty_26 : decode cX3_empty 26 = .ok (.iconst 2, 1) := dk_5 (dk_at dksX3_empty_1 4 rfl rfl)
theorem dX3_empty_27 : decode cX3_empty 27 = .ok (.invokevirtual 68, 3) := dk_182 0 68 (dk_at dksX3_empty_1 5 rfl rfl)
theorem dX3_empty_30 : decode cX3_empty 30 = .ok (.ireturn, 1) := dk_172 (dk_at dksX3_empty_1 8 rfl rfl)
theorem dX3_empty_31 : decode cX3_empty 31 = .ok (.aload_n 0, 1) := dk_42 (dk_at dksX3_empty_1 9 rfl rfl)
theorem dX3_empty_32 : decode cX3_empty 32 = .ok (.iload_n 1, 1) := dk_27 (dk_at dksX3_empty_1 10 rfl rfl)
theorem dX3_empty_33 : decode cX3_empty 33 = .ok (.iload_n 2, 1) := dk_28 (dk_at dksX3_empty_1 11 rfl rfl)
theorem dX3_empty_34 : decode cX3_empty 34 = .ok (.iload_n 3, 1) := dk_29 (dk_at dksX3_empty_1 12 rfl rfl)
theorem dX3_empty_35 : decode cX3_empty 35 = .ok (.iload 4, 2) := dk_21 4 (dk_at dksX3_empty_1 13 rfl rfl)
theorem dX3_empty_37 : decode cX3_empty 37 = .ok (.invokevirtual 164, 3) := dk_182 0 164 (dk_at dksX3_empty_1 15 rfl rfl)
theorem dX3_empty_40 : decode cX3_empty 40 = .ok (.istore 5, 2) := dk_54 5 (dk_at dksX3_empty_1 18 rfl rfl)
theorem dX3_empty_42 : decode cX3_empty 42 = .ok (.iload 5, 2) := dk_21 5 (dk_at dksX3_empty_1 20 rfl rfl)
theorem dX3_empty_44 : decode cX3_empty 44 = .ok (.iconst (-1), 1) := dk_2 (dk_at dksX3_empty_1 22 rfl rfl)
theorem dX3_empty_45 : decode cX3_empty 45 = .ok (.if_icmp .ne 5, 3) := dk_160 0 5 (dk_at dksX3_empty_2 0 rfl rfl)
theorem dX3_empty_48 : decode cX3_empty 48 = .ok (.iconst 0, 1) := dk_3 (dk_at dksX3_empty_2 3 rfl rfl)
theorem dX3_empty_49 : decode cX3_empty 49 = .ok (.ireturn, 1) := dk_172 (dk_at dksX3_empty_2 4 rfl rfl)
theorem dX3_empty_50 : decode cX3_empty 50 = .ok (.aload_n 0, 1) := dk_42 (dk_at dksX3_empty_2 5 rfl rfl)
theorem dX3_empty_51 : decode cX3_empty 51 = .ok (.getfield 42, 3) := dk_180 0 42 (dk_at dksX3_empty_2 6 rfl rfl)
theorem dX3_empty_54 : decode cX3_empty 54 = .ok (.iload 5, 2) := dk_21 5 (dk_at dksX3_empty_2 9 rfl rfl)
theorem dX3_empty_56 : decode cX3_empty 56 = .ok (.lconst 0, 1) := dk_9 (dk_at dksX3_empty_2 11 rfl rfl)
theorem dX3_empty_57 : decode cX3_empty 57 = .ok (.lastore, 1) := dk_80 (dk_at dksX3_empty_2 12 rfl rfl)
theorem dX3_empty_58 : decode cX3_empty 58 = .ok (.aload_n 0, 1) := dk_42 (dk_at dksX3_empty_2 13 rfl rfl)
theorem dX3_empty_59 : decode cX3_empty 59 = .ok (.getfield 46, 3) := dk_180 0 46 (dk_at dksX3_empty_2 14 rfl rfl)
theorem dX3_empty_62 : decode cX3_empty 62 = .ok (.iload 5, 2) := dk_21 5 (dk_at dksX3_empty_2 17 rfl rfl)
theorem dX3_empty_64 : decode cX3_empty 64 = .ok (.iconst 0, 1) := dk_3 (dk_at dksX3_empty_2 19 rfl rfl)
theorem dX3_empty_65 : decode cX3_empty 65 = .ok (.bastore, 1) := dk_84 (dk_at dksX3_empty_2 20 rfl rfl)
theorem dX3_empty_66 : decode cX3_empty 66 = .ok (.aload_n 0, 1) := dk_42 (dk_at dksX3_empty_2 21 rfl rfl)
theorem dX3_empty_67 : decode cX3_empty 67 = .ok (.iconst 1, 1) := dk_4 (dk_at dksX3_empty_2 22 rfl rfl)
theorem dX3_empty_68 : decode cX3_empty 68 = .ok (.invokevirtual 75, 3) := dk_182 0 75 (dk_at dksX3_empty_3 0 rfl rfl)
theorem dX3_empty_71 : decode cX3_empty 71 = .ok (.ireturn, 1) := dk_172 (dk_at dksX3_empty_3 3 rfl rfl)
abbrev cX3_pair : ByteArray := prog_6_method_41_code
def yX3_pair : MethodName := ⟨RX3, "pair", "(IIIJ)I"⟩
def dkwX3_pair_3 : List UInt8 := [180, 0, 175, 182, 0, 75, 172]
abbrev dktX3_pair_3 : List UInt8 := dkwX3_pair_3 ++ []
def dkwX3_pair_2 : List UInt8 := [180, 0, 62, 42, 180, 0, 175, 22, 4, 80, 42, 89, 180, 0, 175, 4, 96, 181, 0, 175, 42, 42]
abbrev dktX3_pair_2 : List UInt8 := dkwX3_pair_2 ++ dktX3_pair_3
def dkwX3_pair_1 : List UInt8 := [27, 79, 42, 180, 0, 56, 42, 180, 0, 175, 28, 79, 42, 180, 0, 59, 42, 180, 0, 175, 29, 79, 42]
abbrev dktX3_pair_1 : List UInt8 := dkwX3_pair_1 ++ dktX3_pair_2
def dkwX3_pair_0 : List UInt8 := [42, 180, 0, 175, 16, 30, 160, 0, 10, 42, 16, 8, 182, 0, 68, 172, 42, 180, 0, 53, 42, 180, 0, 175]
abbrev dktX3_pair_0 : List UInt8 := dkwX3_pair_0 ++ dktX3_pair_1
theorem dksX3_pair_0 : cX3_pair.data.toList.drop 0 = dktX3_pair_0 := by decide +kernel
theorem dksX3_pair_1 : cX3_pair.data.toList.drop 24 = dktX3_pair_1 := dk_seg dksX3_pair_0 24 rfl rfl
theorem dksX3_pair_2 : cX3_pair.data.toList.drop 47 = dktX3_pair_2 := dk_seg dksX3_pair_1 23 rfl rfl
theorem dksX3_pair_3 : cX3_pair.data.toList.drop 69 = dktX3_pair_3 := dk_seg dksX3_pair_2 22 rfl rfl
theorem dX3_pair_0 : decode cX3_pair 0 = .ok (.aload_n 0, 1) := dk_42 (dk_at dksX3_pair_0 0 rfl rfl)
theorem dX3_pair_1 : decode cX3_pair 1 = .ok (.getfield 175, 3) := dk_180 0 175 (dk_at dksX3_pair_0 1 rfl rfl)
theorem dX3_pair_4 : decode cX3_pair 4 = .ok (.bipush 30, 2) := dk_16 30 (dk_at dksX3_pair_0 4 rfl rfl)
theorem dX3_pair_6 : decode cX3_pair 6 = .ok (.if_icmp .ne 10, 3) := dk_160 0 10 (dk_at dksX3_pair_0 6 rfl rfl)
theorem dX3_pair_9 : decode cX3_pair 9 = .ok (.aload_n 0, 1) := dk_42 (dk_at dksX3_pair_0 9 rfl rfl)
theorem dX3_pair_10 : decode cX3_pair 10 = .ok (.bipush 8, 2) := dk_16 8 (dk_at dksX3_pair_0 10 rfl rfl)
theorem dX3_pair_12 : decode cX3_pair 12 = .ok (.invokevirtual 68, 3) := dk_182 0 68 (dk_at dksX3_pair_0 12 rfl rfl)
theorem dX3_pair_15 : decode cX3_pair 15 = .ok (.ireturn, 1) := dk_172 (dk_at dksX3_pair_0 15 rfl rfl)
theorem dX3_pair_16 : decode cX3_pair 16 = .ok (.aload_n 0, 1) := dk_42 (dk_at dksX3_pair_0 16 rfl rfl)
theorem dX3_pair_17 : decode cX3_pair 17 = .ok (.getfield 53, 3) := dk_180 0 53 (dk_at dksX3_pair_0 17 rfl rfl)
theorem dX3_pair_20 : decode cX3_pair 20 = .ok (.aload_n 0, 1) := dk_42 (dk_at dksX3_pair_0 20 rfl rfl)
theorem dX3_pair_21 : decode cX3_pair 21 = .ok (.getfield 175, 3) := dk_180 0 175 (dk_at dksX3_pair_0 21 rfl rfl)
theorem dX3_pair_24 : decode cX3_pair 24 = .ok (.iload_n 1, 1) := dk_27 (dk_at dksX3_pair_1 0 rfl rfl)
theorem dX3_pair_25 : decode cX3_pair 25 = .ok (.iastore, 1) := dk_79 (dk_at dksX3_pair_1 1 rfl rfl)
theorem dX3_pair_26 : decode cX3_pair 26 = .ok (.aload_n 0, 1) := dk_42 (dk_at dksX3_pair_1 2 rfl rfl)
theorem dX3_pair_27 : decode cX3_pair 27 = .ok (.getfield 56, 3) := dk_180 0 56 (dk_at dksX3_pair_1 3 rfl rfl)
theorem dX3_pair_30 : decode cX3_pair 30 = .ok (.aload_n 0, 1) := dk_42 (dk_at dksX3_pair_1 6 rfl rfl)
theorem dX3_pair_31 : decode cX3_pair 31 = .ok (.getfield 175, 3) := dk_180 0 175 (dk_at dksX3_pair_1 7 rfl rfl)
theorem dX3_pair_34 : decode cX3_pair 34 = .ok (.iload_n 2, 1) := dk_28 (dk_at dksX3_pair_1 10 rfl rfl)
theorem dX3_pair_35 : decode cX3_pair 35 = .ok (.iastore, 1) := dk_79 (dk_at dksX3_pair_1 11 rfl rfl)
theorem dX3_pair_36 : decode cX3_pair 36 = .ok (.aload_n 0, 1) := dk_42 (dk_at dksX3_pair_1 12 rfl rfl)
theorem dX3_pair_37 : decode cX3_pair 37 = .ok (.getfield 59, 3) := dk_180 0 59 (dk_at dksX3_pair_1 13 rfl rfl)
theorem dX3_pair_40 : decode cX3_pair 40 = .ok (.aload_n 0, 1) := dk_42 (dk_at dksX3_pair_1 16 rfl rfl)
theorem dX3_pair_41 : decode cX3_pair 41 = .ok (.getfield 175, 3) := dk_180 0 175 (dk_at dksX3_pair_1 17 rfl rfl)
theorem dX3_pair_44 : decode cX3_pair 44 = .ok (.iload_n 3, 1) := dk_29 (dk_at dksX3_pair_1 20 rfl rfl)
theorem dX3_pair_45 : decode cX3_pair 45 = .ok (.iastore, 1) := dk_79 (dk_at dksX3_pair_1 21 rfl rfl)
theorem dX3_pair_46 : decode cX3_pair 46 = .ok (.aload_n 0, 1) := dk_42 (dk_at dksX3_pair_1 22 rfl rfl)
theorem dX3_pair_47 : decode cX3_pair 47 = .ok (.getfield 62, 3) := dk_180 0 62 (dk_at dksX3_pair_2 0 rfl rfl)
theorem dX3_pair_50 : decode cX3_pair 50 = .ok (.aload_n 0, 1) := dk_42 (dk_at dksX3_pair_2 3 rfl rfl)
theorem dX3_pair_51 : decode cX3_pair 51 = .ok (.getfield 175, 3) := dk_180 0 175 (dk_at dksX3_pair_2 4 rfl rfl)
theorem dX3_pair_54 : decode cX3_pair 54 = .ok (.lload 4, 2) := dk_22 4 (dk_at dksX3_pair_2 7 rfl rfl)
theorem dX3_pair_56 : decode cX3_pair 56 = .ok (.lastore, 1) := dk_80 (dk_at dksX3_pair_2 9 rfl rfl)
theorem dX3_pair_57 : decode cX3_pair 57 = .ok (.aload_n 0, 1) := dk_42 (dk_at dksX3_pair_2 10 rfl rfl)
theorem dX3_pair_58 : decode cX3_pair 58 = .ok (.dup, 1) := dk_89 (dk_at dksX3_pair_2 11 rfl rfl)
theorem dX3_pair_59 : decode cX3_pair 59 = .ok (.getfield 175, 3) := dk_180 0 175 (dk_at dksX3_pair_2 12 rfl rfl)
theorem dX3_pair_62 : decode cX3_pair 62 = .ok (.iconst 1, 1) := dk_4 (dk_at dksX3_pair_2 15 rfl rfl)
theorem dX3_pair_63 : decode cX3_pair 63 = .ok (.iadd, 1) := dk_96 (dk_at dksX3_pair_2 16 rfl rfl)
theorem dX3_pair_64 : decode cX3_pair 64 = .ok (.putfield 175, 3) := dk_181 0 175 (dk_at dksX3_pair_2 17 rfl rfl)
theorem dX3_pair_67 : decode cX3_pair 67 = .ok (.aload_n 0, 1) := dk_42 (dk_at dksX3_pair_2 20 rfl rfl)
theorem dX3_pair_68 : decode cX3_pair 68 = .ok (.aload_n 0, 1) := dk_42 (dk_at dksX3_pair_2 21 rfl rfl)
theorem dX3_pair_69 : decode cX3_pair 69 = .ok (.getfield 175, 3) := dk_180 0 175 (dk_at dksX3_pair_3 0 rfl rfl)
theorem dX3_pair_72 : decode cX3_pair 72 = .ok (.invokevirtual 75, 3) := dk_182 0 75 (dk_at dksX3_pair_3 3 rfl rfl)
theorem dX3_pair_75 : decode cX3_pair 75 = .ok (.ireturn, 1) := dk_172 (dk_at dksX3_pair_3 6 rfl rfl)
abbrev cX3_gather : ByteArray := prog_6_method_43_code
def yX3_gather : MethodName := ⟨RX3, "gather", "(II)I"⟩
def dkwX3_gather_5 : List UInt8 := [167, 255, 175, 42, 180, 0, 175, 54, 4, 42, 3, 181, 0, 175, 42, 21, 4, 182, 0, 75, 172]
abbrev dktX3_gather_5 : List UInt8 := dkwX3_gather_5 ++ []
def dkwX3_gather_4 : List UInt8 := [180, 0, 62, 21, 4, 47, 182, 0, 182, 154, 0, 12, 42, 16, 6, 181, 0, 65, 21, 4, 172, 132, 4, 1]
abbrev dktX3_gather_4 : List UInt8 := dkwX3_gather_4 ++ dktX3_gather_5
def dkwX3_gather_3 : List UInt8 := [54, 5, 21, 5, 2, 160, 0, 6, 21, 4, 172, 42, 21, 5, 42, 180, 0, 20, 27, 46, 28, 42]
abbrev dktX3_gather_3 : List UInt8 := dkwX3_gather_3 ++ dktX3_gather_4
def dkwX3_gather_2 : List UInt8 := [180, 0, 53, 21, 4, 46, 42, 180, 0, 56, 21, 4, 46, 42, 180, 0, 59, 21, 4, 46, 182, 0, 164]
abbrev dktX3_gather_2 : List UInt8 := dkwX3_gather_2 ++ dktX3_gather_3
def dkwX3_gather_1 : List UInt8 := [153, 0, 9, 42, 29, 182, 0, 68, 172, 3, 54, 4, 21, 4, 42, 180, 0, 175, 162, 0, 78, 42, 27, 42]
abbrev dktX3_gather_1 : List UInt8 := dkwX3_gather_1 ++ dktX3_gather_2
def dkwX3_gather_0 : List UInt8 := [28, 133, 9, 20, 0, 180, 184, 0, 101, 154, 0, 6, 18, 116, 172, 42, 27, 182, 0, 135, 62, 29]
abbrev dktX3_gather_0 : List UInt8 := dkwX3_gather_0 ++ dktX3_gather_1
theorem dksX3_gather_0 : cX3_gather.data.toList.drop 0 = dktX3_gather_0 := by decide +kernel
theorem dksX3_gather_1 : cX3_gather.data.toList.drop 22 = dktX3_gather_1 := dk_seg dksX3_gather_0 22 rfl rfl
theorem dksX3_gather_2 : cX3_gather.data.toList.drop 46 = dktX3_gather_2 := dk_seg dksX3_gather_1 24 rfl rfl
theorem dksX3_gather_3 : cX3_gather.data.toList.drop 69 = dktX3_gather_3 := dk_seg dksX3_gather_2 23 rfl rfl
theorem dksX3_gather_4 : cX3_gather.data.toList.drop 91 = dktX3_gather_4 := dk_seg dksX3_gather_3 22 rfl rfl
theorem dksX3_gather_5 : cX3_gather.data.toList.drop 115 = dktX3_gather_5 := dk_seg dksX3_gather_4 24 rfl rfl
theorem dX3_gather_0 : decode cX3_gather 0 = .ok (.iload_n 2, 1) := dk_28 (dk_at dksX3_gather_0 0 rfl rfl)
theorem dX3_gather_1 : decode cX3_gather 1 = .ok (.i2l, 1) := dk_133 (dk_at dksX3_gather_0 1 rfl rfl)
theorem dX3_gather_2 : decode cX3_gather 2 = .ok (.lconst 0, 1) := dk_9 (dk_at dksX3_gather_0 2 rfl rfl)
theorem dX3_gather_3 : decode cX3_gather 3 = .ok (.ldc2_w 180, 3) := dk_20 0 180 (dk_at dksX3_gather_0 3 rfl rfl)
theorem dX3_gather_6 : decode cX3_gather 6 = .ok (.invokestatic 101, 3) := dk_184 0 101 (dk_at dksX3_gather_0 6 rfl rfl)
theorem dX3_gather_9 : decode cX3_gather 9 = .ok (.ifCond .ne 6, 3) := dk_154 0 6 (dk_at dksX3_gather_0 9 rfl rfl)
theorem dX3_gather_12 : decode cX3_gather 12 = .ok (.ldc 116, 2) := dk_18 116 (dk_at dksX3_gather_0 12 rfl rfl)
theorem dX3_gather_14 : decode cX3_gather 14 = .ok (.ireturn, 1) := dk_172 (dk_at dksX3_gather_0 14 rfl rfl)
theorem dX3_gather_15 : decode cX3_gather 15 = .ok (.aload_n 0, 1) := dk_42 (dk_at dksX3_gather_0 15 rfl rfl)
theorem dX3_gather_16 : decode cX3_gather 16 = .ok (.iload_n 1, 1) := dk_27 (dk_at dksX3_gather_0 16 rfl rfl)
theorem dX3_gather_17 : decode cX3_gather 17 = .ok (.invokevirtual 135, 3) := dk_182 0 135 (dk_at dksX3_gather_0 17 rfl rfl)
theorem dX3_gather_20 : decode cX3_gather 20 = .ok (.istore_n 3, 1) := dk_62 (dk_at dksX3_gather_0 20 rfl rfl)
theorem dX3_gather_21 : decode cX3_gather 21 = .ok (.iload_n 3, 1) := dk_29 (dk_at dksX3_gather_0 21 rfl rfl)
theorem dX3_gather_22 : decode cX3_gather 22 = .ok (.ifCond .eq 9, 3) := dk_153 0 9 (dk_at dksX3_gather_1 0 rfl rfl)
theorem dX3_gather_25 : decode cX3_gather 25 = .ok (.aload_n 0, 1) := dk_42 (dk_at dksX3_gather_1 3 rfl rfl)
theorem dX3_gather_26 : decode cX3_gather 26 = .ok (.iload_n 3, 1) := dk_29 (dk_at dksX3_gather_1 4 rfl rfl)
theorem dX3_gather_27 : decode cX3_gather 27 = .ok (.invokevirtual 68, 3) := dk_182 0 68 (dk_at dksX3_gather_1 5 rfl rfl)
theorem dX3_gather_30 : decode cX3_gather 30 = .ok (.ireturn, 1) := dk_172 (dk_at dksX3_gather_1 8 rfl rfl)
theorem dX3_gather_31 : decode cX3_gather 31 = .ok (.iconst 0, 1) := dk_3 (dk_at dksX3_gather_1 9 rfl rfl)
theorem dX3_gather_32 : decode cX3_gather 32 = .ok (.istore 4, 2) := dk_54 4 (dk_at dksX3_gather_1 10 rfl rfl)
theorem dX3_gather_34 : decode cX3_gather 34 = .ok (.iload 4, 2) := dk_21 4 (dk_at dksX3_gather_1 12 rfl rfl)
theorem dX3_gather_36 : decode cX3_gather 36 = .ok (.aload_n 0, 1) := dk_42 (dk_at dksX3_gather_1 14 rfl rfl)
theorem dX3_gather_37 : decode cX3_gather 37 = .ok (.getfield 175, 3) := dk_180 0 175 (dk_at dksX3_gather_1 15 rfl rfl)
theorem dX3_gather_40 : decode cX3_gather 40 = .ok (.if_icmp .ge 78, 3) := dk_162 0 78 (dk_at dksX3_gather_1 18 rfl rfl)
theorem dX3_gather_43 : decode cX3_gather 43 = .ok (.aload_n 0, 1) := dk_42 (dk_at dksX3_gather_1 21 rfl rfl)
theorem dX3_gather_44 : decode cX3_gather 44 = .ok (.iload_n 1, 1) := dk_27 (dk_at dksX3_gather_1 22 rfl rfl)
theorem dX3_gather_45 : decode cX3_gather 45 = .ok (.aload_n 0, 1) := dk_42 (dk_at dksX3_gather_1 23 rfl rfl)
theorem dX3_gather_46 : decode cX3_gather 46 = .ok (.getfield 53, 3) := dk_180 0 53 (dk_at dksX3_gather_2 0 rfl rfl)
theorem dX3_gather_49 : decode cX3_gather 49 = .ok (.iload 4, 2) := dk_21 4 (dk_at dksX3_gather_2 3 rfl rfl)
theorem dX3_gather_51 : decode cX3_gather 51 = .ok (.iaload, 1) := dk_46 (dk_at dksX3_gather_2 5 rfl rfl)
theorem dX3_gather_52 : decode cX3_gather 52 = .ok (.aload_n 0, 1) := dk_42 (dk_at dksX3_gather_2 6 rfl rfl)
theorem dX3_gather_53 : decode cX3_gather 53 = .ok (.getfield 56, 3) := dk_180 0 56 (dk_at dksX3_gather_2 7 rfl rfl)
theorem dX3_gather_56 : decode cX3_gather 56 = .ok (.iload 4, 2) := dk_21 4 (dk_at dksX3_gather_2 10 rfl rfl)
theorem dX3_gather_58 : decode cX3_gather 58 = .ok (.iaload, 1) := dk_46 (dk_at dksX3_gather_2 12 rfl rfl)
theorem dX3_gather_59 : decode cX3_gather 59 = .ok (.aload_n 0, 1) := dk_42 (dk_at dksX3_gather_2 13 rfl rfl)
theorem dX3_gather_60 : decode cX3_gather 60 = .ok (.getfield 59, 3) := dk_180 0 59 (dk_at dksX3_gather_2 14 rfl rfl)
theorem dX3_gather_63 : decode cX3_gather 63 = .ok (.iload 4, 2) := dk_21 4 (dk_at dksX3_gather_2 17 rfl rfl)
theorem dX3_gather_65 : decode cX3_gather 65 = .ok (.iaload, 1) := dk_46 (dk_at dksX3_gather_2 19 rfl rfl)
theorem dX3_gather_66 : decode cX3_gather 66 = .ok (.invokevirtual 164, 3) := dk_182 0 164 (dk_at dksX3_gather_2 20 rfl rfl)
theorem dX3_gather_69 : decode cX3_gather 69 = .ok (.istore 5, 2) := dk_54 5 (dk_at dksX3_gather_3 0 rfl rfl)
theorem dX3_gather_71 : decode cX3_gather 71 = .ok (.iload 5, 2) := dk_21 5 (dk_at dksX3_gather_3 2 rfl rfl)
theorem dX3_gather_73 : decode cX3_gather 73 = .ok (.iconst (-1), 1) := dk_2 (dk_at dksX3_gather_3 4 rfl rfl)
theorem dX3_gather_74 : decode cX3_gather 74 = .ok (.if_icmp .ne 6, 3) := dk_160 0 6 (dk_at dksX3_gather_3 5 rfl rfl)
theorem dX3_gather_77 : decode cX3_gather 77 = .ok (.iload 4, 2) := dk_21 4 (dk_at dksX3_gather_3 8 rfl rfl)
theorem dX3_gather_79 : decode cX3_gather 79 = .ok (.ireturn, 1) := dk_172 (dk_at dksX3_gather_3 10 rfl rfl)
theorem dX3_gather_80 : decode cX3_gather 80 = .ok (.aload_n 0, 1) := dk_42 (dk_at dksX3_gather_3 11 rfl rfl)
theorem dX3_gather_81 : decode cX3_gather 81 = .ok (.iload 5, 2) := dk_21 5 (dk_at dksX3_gather_3 12 rfl rfl)
theorem dX3_gather_83 : decode cX3_gather 83 = .ok (.aload_n 0, 1) := dk_42 (dk_at dksX3_gather_3 14 rfl rfl)
theorem dX3_gather_84 : decode cX3_gather 84 = .ok (.getfield 20, 3) := dk_180 0 20 (dk_at dksX3_gather_3 15 rfl rfl)
theorem dX3_gather_87 : decode cX3_gather 87 = .ok (.iload_n 1, 1) := dk_27 (dk_at dksX3_gather_3 18 rfl rfl)
theorem dX3_gather_88 : decode cX3_gather 88 = .ok (.iaload, 1) := dk_46 (dk_at dksX3_gather_3 19 rfl rfl)
theorem dX3_gather_89 : decode cX3_gather 89 = .ok (.iload_n 2, 1) := dk_28 (dk_at dksX3_gather_3 20 rfl rfl)
theorem dX3_gather_90 : decode cX3_gather 90 = .ok (.aload_n 0, 1) := dk_42 (dk_at dksX3_gather_3 21 rfl rfl)
theorem dX3_gather_91 : decode cX3_gather 91 = .ok (.getfield 62, 3) := dk_180 0 62 (dk_at dksX3_gather_4 0 rfl rfl)
theorem dX3_gather_94 : decode cX3_gather 94 = .ok (.iload 4, 2) := dk_21 4 (dk_at dksX3_gather_4 3 rfl rfl)
theorem dX3_gather_96 : decode cX3_gather 96 = .ok (.laload, 1) := dk_47 (dk_at dksX3_gather_4 5 rfl rfl)
theorem dX3_gather_97 : decode cX3_gather 97 = .ok (.invokevirtual 182, 3) := dk_182 0 182 (dk_at dksX3_gather_4 6 rfl rfl)
theorem dX3_gather_100 : decode cX3_gather 100 = .ok (.ifCond .ne 12, 3) := dk_154 0 12 (dk_at dksX3_gather_4 9 rfl rfl)
theorem dX3_gather_103 : decode cX3_gather 103 = .ok (.aload_n 0, 1) := dk_42 (dk_at dksX3_gather_4 12 rfl rfl)
theorem dX3_gather_104 : decode cX3_gather 104 = .ok (.bipush 6, 2) := dk_16 6 (dk_at dksX3_gather_4 13 rfl rfl)
theorem dX3_gather_106 : decode cX3_gather 106 = .ok (.putfield 65, 3) := dk_181 0 65 (dk_at dksX3_gather_4 15 rfl rfl)
theorem dX3_gather_109 : decode cX3_gather 109 = .ok (.iload 4, 2) := dk_21 4 (dk_at dksX3_gather_4 18 rfl rfl)
theorem dX3_gather_111 : decode cX3_gather 111 = .ok (.ireturn, 1) := dk_172 (dk_at dksX3_gather_4 20 rfl rfl)
theorem dX3_gather_112 : decode cX3_gather 112 = .ok (.iinc 4 1, 3) := dk_132 4 1 (dk_at dksX3_gather_4 21 rfl rfl)
theorem dX3_gather_115 : decode cX3_gather 115 = .ok (.goto (-81), 3) := dk_167 255 175 (dk_at dksX3_gather_5 0 rfl rfl)
theorem dX3_gather_118 : decode cX3_gather 118 = .ok (.aload_n 0, 1) := dk_42 (dk_at dksX3_gather_5 3 rfl rfl)
theorem dX3_gather_119 : decode cX3_gather 119 = .ok (.getfield 175, 3) := dk_180 0 175 (dk_at dksX3_gather_5 4 rfl rfl)
theorem dX3_gather_122 : decode cX3_gather 122 = .ok (.istore 4, 2) := dk_54 4 (dk_at dksX3_gather_5 7 rfl rfl)
theorem dX3_gather_124 : decode cX3_gather 124 = .ok (.aload_n 0, 1) := dk_42 (dk_at dksX3_gather_5 9 rfl rfl)
theorem dX3_gather_125 : decode cX3_gather 125 = .ok (.iconst 0, 1) := dk_3 (dk_at dksX3_gather_5 10 rfl rfl)
theorem dX3_gather_126 : decode cX3_gather 126 = .ok (.putfield 175, 3) := dk_181 0 175 (dk_at dksX3_gather_5 11 rfl rfl)
theorem dX3_gather_129 : decode cX3_gather 129 = .ok (.aload_n 0, 1) := dk_42 (dk_at dksX3_gather_5 14 rfl rfl)
theorem dX3_gather_130 : decode cX3_gather 130 = .ok (.iload 4, 2) := dk_21 4 (dk_at dksX3_gather_5 15 rfl rfl)
theorem dX3_gather_132 : decode cX3_gather 132 = .ok (.invokevirtual 75, 3) := dk_182 0 75 (dk_at dksX3_gather_5 17 rfl rfl)
theorem dX3_gather_135 : decode cX3_gather 135 = .ok (.ireturn, 1) := dk_172 (dk_at dksX3_gather_5 20 rfl rfl)
abbrev cX3_joins : ByteArray := prog_6_method_42_code
def yX3_joins : MethodName := ⟨RX3, "joins", "(IIIJ)Z"⟩
def dkwX3_joins_7 : List UInt8 := [22, 6, 22, 4, 113, 55, 8, 42, 27, 28, 22, 8, 182, 0, 171, 4, 172]
abbrev dktX3_joins_7 : List UInt8 := dkwX3_joins_7 ++ []
def dkwX3_joins_6 : List UInt8 := [55, 8, 167, 0, 28, 29, 8, 160, 0, 23, 22, 4, 20, 0, 178, 148, 154, 0, 7, 9, 167, 0, 8]
abbrev dktX3_joins_6 : List UInt8 := dkwX3_joins_6 ++ dktX3_joins_7
def dkwX3_joins_5 : List UInt8 := [160, 0, 29, 22, 4, 20, 0, 178, 148, 154, 0, 10, 9, 22, 6, 101, 167, 0, 8, 22, 6, 22, 4, 109]
abbrev dktX3_joins_5 : List UInt8 := dkwX3_joins_5 ++ dktX3_joins_6
def dkwX3_joins_4 : List UInt8 := [22, 6, 22, 4, 148, 156, 0, 8, 22, 6, 167, 0, 5, 22, 4, 55, 8, 167, 0, 59, 29, 7]
abbrev dktX3_joins_4 : List UInt8 := dkwX3_joins_4 ++ dktX3_joins_5
def dkwX3_joins_3 : List UInt8 := [22, 4, 148, 158, 0, 8, 22, 6, 167, 0, 5, 22, 4, 55, 8, 167, 0, 84, 29, 6, 160, 0, 23]
abbrev dktX3_joins_3 : List UInt8 := dkwX3_joins_3 ++ dktX3_joins_4
def dkwX3_joins_2 : List UInt8 := [55, 8, 29, 4, 160, 0, 13, 22, 6, 22, 4, 97, 55, 8, 167, 0, 109, 29, 5, 160, 0, 23, 22, 6]
abbrev dktX3_joins_2 : List UInt8 := dkwX3_joins_2 ++ dktX3_joins_3
def dkwX3_joins_1 : List UInt8 := [42, 180, 0, 42, 27, 47, 55, 6, 29, 6, 164, 0, 12, 22, 4, 9, 148, 154, 0, 5, 3, 172, 22, 4]
abbrev dktX3_joins_1 : List UInt8 := dkwX3_joins_1 ++ dktX3_joins_2
def dkwX3_joins_0 : List UInt8 := [28, 6, 160, 0, 22, 42, 180, 0, 46, 27, 51, 154, 0, 13, 42, 27, 28, 22, 4, 182, 0, 171, 4, 172]
abbrev dktX3_joins_0 : List UInt8 := dkwX3_joins_0 ++ dktX3_joins_1
theorem dksX3_joins_0 : cX3_joins.data.toList.drop 0 = dktX3_joins_0 := by decide +kernel
theorem dksX3_joins_1 : cX3_joins.data.toList.drop 24 = dktX3_joins_1 := dk_seg dksX3_joins_0 24 rfl rfl
theorem dksX3_joins_2 : cX3_joins.data.toList.drop 48 = dktX3_joins_2 := dk_seg dksX3_joins_1 24 rfl rfl
theorem dksX3_joins_3 : cX3_joins.data.toList.drop 72 = dktX3_joins_3 := dk_seg dksX3_joins_2 24 rfl rfl
theorem dksX3_joins_4 : cX3_joins.data.toList.drop 95 = dktX3_joins_4 := dk_seg dksX3_joins_3 23 rfl rfl
theorem dksX3_joins_5 : cX3_joins.data.toList.drop 117 = dktX3_joins_5 := dk_seg dksX3_joins_4 22 rfl rfl
theorem dksX3_joins_6 : cX3_joins.data.toList.drop 141 = dktX3_joins_6 := dk_seg dksX3_joins_5 24 rfl rfl
theorem dksX3_joins_7 : cX3_joins.data.toList.drop 164 = dktX3_joins_7 := dk_seg dksX3_joins_6 23 rfl rfl
theorem dX3_joins_0 : decode cX3_joins 0 = .ok (.iload_n 2, 1) := dk_28 (dk_at dksX3_joins_0 0 rfl rfl)
theorem dX3_joins_1 : decode cX3_joins 1 = .ok (.iconst 3, 1) := dk_6 (dk_at dksX3_joins_0 1 rfl rfl)
theorem dX3_joins_2 : decode cX3_joins 2 = .ok (.if_icmp .ne 22, 3) := dk_160 0 22 (dk_at dksX3_joins_0 2 rfl rfl)
theorem dX3_joins_5 : decode cX3_joins 5 = .ok (.aload_n 0, 1) := dk_42 (dk_at dksX3_joins_0 5 rfl rfl)
theorem dX3_joins_6 : decode cX3_joins 6 = .ok (.getfield 46, 3) := dk_180 0 46 (dk_at dksX3_joins_0 6 rfl rfl)
theorem dX3_joins_9 : decode cX3_joins 9 = .ok (.iload_n 1, 1) := dk_27 (dk_at dksX3_joins_0 9 rfl rfl)
theorem dX3_joins_10 : decode cX3_joins 10 = .ok (.baload, 1) := dk_51 (dk_at dksX3_joins_0 10 rfl rfl)
theorem dX3_joins_11 : decode cX3_joins 11 = .ok (.ifCond .ne 13, 3) := dk_154 0 13 (dk_at dksX3_joins_0 11 rfl rfl)
theorem dX3_joins_14 : decode cX3_joins 14 = .ok (.aload_n 0, 1) := dk_42 (dk_at dksX3_joins_0 14 rfl rfl)
theorem dX3_joins_15 : decode cX3_joins 15 = .ok (.iload_n 1, 1) := dk_27 (dk_at dksX3_joins_0 15 rfl rfl)
theorem dX3_joins_16 : decode cX3_joins 16 = .ok (.iload_n 2, 1) := dk_28 (dk_at dksX3_joins_0 16 rfl rfl)
theorem dX3_joins_17 : decode cX3_joins 17 = .ok (.lload 4, 2) := dk_22 4 (dk_at dksX3_joins_0 17 rfl rfl)
theorem dX3_joins_19 : decode cX3_joins 19 = .ok (.invokevirtual 171, 3) := dk_182 0 171 (dk_at dksX3_joins_0 19 rfl rfl)
theorem dX3_joins_22 : decode cX3_joins 22 = .ok (.iconst 1, 1) := dk_4 (dk_at dksX3_joins_0 22 rfl rfl)
theorem dX3_joins_23 : decode cX3_joins 23 = .ok (.ireturn, 1) := dk_172 (dk_at dksX3_joins_0 23 rfl rfl)
theorem dX3_joins_24 : decode cX3_joins 24 = .ok (.aload_n 0, 1) := dk_42 (dk_at dksX3_joins_1 0 rfl rfl)
theorem dX3_joins_25 : decode cX3_joins 25 = .ok (.getfield 42, 3) := dk_180 0 42 (dk_at dksX3_joins_1 1 rfl rfl)
theorem dX3_joins_28 : decode cX3_joins 28 = .ok (.iload_n 1, 1) := dk_27 (dk_at dksX3_joins_1 4 rfl rfl)
theorem dX3_joins_29 : decode cX3_joins 29 = .ok (.laload, 1) := dk_47 (dk_at dksX3_joins_1 5 rfl rfl)
theorem dX3_joins_30 : decode cX3_joins 30 = .ok (.lstore 6, 2) := dk_55 6 (dk_at dksX3_joins_1 6 rfl rfl)
theorem dX3_joins_32 : decode cX3_joins 32 = .ok (.iload_n 3, 1) := dk_29 (dk_at dksX3_joins_1 8 rfl rfl)
theorem dX3_joins_33 : decode cX3_joins 33 = .ok (.iconst 3, 1) := dk_6 (dk_at dksX3_joins_1 9 rfl rfl)
theorem dX3_joins_34 : decode cX3_joins 34 = .ok (.if_icmp .le 12, 3) := dk_164 0 12 (dk_at dksX3_joins_1 10 rfl rfl)
theorem dX3_joins_37 : decode cX3_joins 37 = .ok (.lload 4, 2) := dk_22 4 (dk_at dksX3_joins_1 13 rfl rfl)
theorem dX3_joins_39 : decode cX3_joins 39 = .ok (.lconst 0, 1) := dk_9 (dk_at dksX3_joins_1 15 rfl rfl)
theorem dX3_joins_40 : decode cX3_joins 40 = .ok (.lcmp, 1) := dk_148 (dk_at dksX3_joins_1 16 rfl rfl)
theorem dX3_joins_41 : decode cX3_joins 41 = .ok (.ifCond .ne 5, 3) := dk_154 0 5 (dk_at dksX3_joins_1 17 rfl rfl)
theorem dX3_joins_44 : decode cX3_joins 44 = .ok (.iconst 0, 1) := dk_3 (dk_at dksX3_joins_1 20 rfl rfl)
theorem dX3_joins_45 : decode cX3_joins 45 = .ok (.ireturn, 1) := dk_172 (dk_at dksX3_joins_1 21 rfl rfl)
theorem dX3_joins_46 : decode cX3_joins 46 = .ok (.lload 4, 2) := dk_22 4 (dk_at dksX3_joins_1 22 rfl rfl)
theorem dX3_joins_48 : decode cX3_joins 48 = .ok (.lstore 8, 2) := dk_55 8 (dk_at dksX3_joins_2 0 rfl rfl)
theorem dX3_joins_50 : decode cX3_joins 50 = .ok (.iload_n 3, 1) := dk_29 (dk_at dksX3_joins_2 2 rfl rfl)
theorem dX3_joins_51 : decode cX3_joins 51 = .ok (.iconst 1, 1) := dk_4 (dk_at dksX3_joins_2 3 rfl rfl)
theorem dX3_joins_52 : decode cX3_joins 52 = .ok (.if_icmp .ne 13, 3) := dk_160 0 13 (dk_at dksX3_joins_2 4 rfl rfl)
theorem dX3_joins_55 : decode cX3_joins 55 = .ok (.lload 6, 2) := dk_22 6 (dk_at dksX3_joins_2 7 rfl rfl)
theorem dX3_joins_57 : decode cX3_joins 57 = .ok (.lload 4, 2) := dk_22 4 (dk_at dksX3_joins_2 9 rfl rfl)
theorem dX3_joins_59 : decode cX3_joins 59 = .ok (.ladd, 1) := dk_97 (dk_at dksX3_joins_2 11 rfl rfl)
theorem dX3_joins_60 : decode cX3_joins 60 = .ok (.lstore 8, 2) := dk_55 8 (dk_at dksX3_joins_2 12 rfl rfl)
theorem dX3_joins_62 : decode cX3_joins 62 = .ok (.goto 109, 3) := dk_167 0 109 (dk_at dksX3_joins_2 14 rfl rfl)
theorem dX3_joins_65 : decode cX3_joins 65 = .ok (.iload_n 3, 1) := dk_29 (dk_at dksX3_joins_2 17 rfl rfl)
theorem dX3_joins_66 : decode cX3_joins 66 = .ok (.iconst 2, 1) := dk_5 (dk_at dksX3_joins_2 18 rfl rfl)
theorem dX3_joins_67 : decode cX3_joins 67 = .ok (.if_icmp .ne 23, 3) := dk_160 0 23 (dk_at dksX3_joins_2 19 rfl rfl)
theorem dX3_joins_70 : decode cX3_joins 70 = .ok (.lload 6, 2) := dk_22 6 (dk_at dksX3_joins_2 22 rfl rfl)
theorem dX3_joins_72 : decode cX3_joins 72 = .ok (.lload 4, 2) := dk_22 4 (dk_at dksX3_joins_3 0 rfl rfl)
theorem dX3_joins_74 : decode cX3_joins 74 = .ok (.lcmp, 1) := dk_148 (dk_at dksX3_joins_3 2 rfl rfl)
theorem dX3_joins_75 : decode cX3_joins 75 = .ok (.ifCond .le 8, 3) := dk_158 0 8 (dk_at dksX3_joins_3 3 rfl rfl)
theorem dX3_joins_78 : decode cX3_joins 78 = .ok (.lload 6, 2) := dk_22 6 (dk_at dksX3_joins_3 6 rfl rfl)
theorem dX3_joins_80 : decode cX3_joins 80 = .ok (.goto 5, 3) := dk_167 0 5 (dk_at dksX3_joins_3 8 rfl rfl)
theorem dX3_joins_83 : decode cX3_joins 83 = .ok (.lload 4, 2) := dk_22 4 (dk_at dksX3_joins_3 11 rfl rfl)
theorem dX3_joins_85 : decode cX3_joins 85 = .ok (.lstore 8, 2) := dk_55 8 (dk_at dksX3_joins_3 13 rfl rfl)
theorem dX3_joins_87 : decode cX3_joins 87 = .ok (.goto 84, 3) := dk_167 0 84 (dk_at dksX3_joins_3 15 rfl rfl)
theorem dX3_joins_90 : decode cX3_joins 90 = .ok (.iload_n 3, 1) := dk_29 (dk_at dksX3_joins_3 18 rfl rfl)
theorem dX3_joins_91 : decode cX3_joins 91 = .ok (.iconst 3, 1) := dk_6 (dk_at dksX3_joins_3 19 rfl rfl)
theorem dX3_joins_92 : decode cX3_joins 92 = .ok (.if_icmp .ne 23, 3) := dk_160 0 23 (dk_at dksX3_joins_3 20 rfl rfl)
theorem dX3_joins_95 : decode cX3_joins 95 = .ok (.lload 6, 2) := dk_22 6 (dk_at dksX3_joins_4 0 rfl rfl)
theorem dX3_joins_97 : decode cX3_joins 97 = .ok (.lload 4, 2) := dk_22 4 (dk_at dksX3_joins_4 2 rfl rfl)
theorem dX3_joins_99 : decode cX3_joins 99 = .ok (.lcmp, 1) := dk_148 (dk_at dksX3_joins_4 4 rfl rfl)
theorem dX3_joins_100 : decode cX3_joins 100 = .ok (.ifCond .ge 8, 3) := dk_156 0 8 (dk_at dksX3_joins_4 5 rfl rfl)
theorem dX3_joins_103 : decode cX3_joins 103 = .ok (.lload 6, 2) := dk_22 6 (dk_at dksX3_joins_4 8 rfl rfl)
theorem dX3_joins_105 : decode cX3_joins 105 = .ok (.goto 5, 3) := dk_167 0 5 (dk_at dksX3_joins_4 10 rfl rfl)
theorem dX3_joins_108 : decode cX3_joins 108 = .ok (.lload 4, 2) := dk_22 4 (dk_at dksX3_joins_4 13 rfl rfl)
theorem dX3_joins_110 : decode cX3_joins 110 = .ok (.lstore 8, 2) := dk_55 8 (dk_at dksX3_joins_4 15 rfl rfl)
theorem dX3_joins_112 : decode cX3_joins 112 = .ok (.goto 59, 3) := dk_167 0 59 (dk_at dksX3_joins_4 17 rfl rfl)
theorem dX3_joins_115 : decode cX3_joins 115 = .ok (.iload_n 3, 1) := dk_29 (dk_at dksX3_joins_4 20 rfl rfl)
theorem dX3_joins_116 : decode cX3_joins 116 = .ok (.iconst 4, 1) := dk_7 (dk_at dksX3_joins_4 21 rfl rfl)
theorem dX3_joins_117 : decode cX3_joins 117 = .ok (.if_icmp .ne 29, 3) := dk_160 0 29 (dk_at dksX3_joins_5 0 rfl rfl)
theorem dX3_joins_120 : decode cX3_joins 120 = .ok (.lload 4, 2) := dk_22 4 (dk_at dksX3_joins_5 3 rfl rfl)
theorem dX3_joins_122 : decode cX3_joins 122 = .ok (.ldc2_w 178, 3) := dk_20 0 178 (dk_at dksX3_joins_5 5 rfl rfl)
theorem dX3_joins_125 : decode cX3_joins 125 = .ok (.lcmp, 1) := dk_148 (dk_at dksX3_joins_5 8 rfl rfl)
theorem dX3_joins_126 : decode cX3_joins 126 = .ok (.ifCond .ne 10, 3) := dk_154 0 10 (dk_at dksX3_joins_5 9 rfl rfl)
theorem dX3_joins_129 : decode cX3_joins 129 = .ok (.lconst 0, 1) := dk_9 (dk_at dksX3_joins_5 12 rfl rfl)
theorem dX3_joins_130 : decode cX3_joins 130 = .ok (.lload 6, 2) := dk_22 6 (dk_at dksX3_joins_5 13 rfl rfl)
theorem dX3_joins_132 : decode cX3_joins 132 = .ok (.lsub, 1) := dk_101 (dk_at dksX3_joins_5 15 rfl rfl)
theorem dX3_joins_133 : decode cX3_joins 133 = .ok (.goto 8, 3) := dk_167 0 8 (dk_at dksX3_joins_5 16 rfl rfl)
theorem dX3_joins_136 : decode cX3_joins 136 = .ok (.lload 6, 2) := dk_22 6 (dk_at dksX3_joins_5 19 rfl rfl)
theorem dX3_joins_138 : decode cX3_joins 138 = .ok (.lload 4, 2) := dk_22 4 (dk_at dksX3_joins_5 21 rfl rfl)
theorem dX3_joins_140 : decode cX3_joins 140 = .ok (.ldiv, 1) := dk_109 (dk_at dksX3_joins_5 23 rfl rfl)
theorem dX3_joins_141 : decode cX3_joins 141 = .ok (.lstore 8, 2) := dk_55 8 (dk_at dksX3_joins_6 0 rfl rfl)
theorem dX3_joins_143 : decode cX3_joins 143 = .ok (.goto 28, 3) := dk_167 0 28 (dk_at dksX3_joins_6 2 rfl rfl)
theorem dX3_joins_146 : decode cX3_joins 146 = .ok (.iload_n 3, 1) := dk_29 (dk_at dksX3_joins_6 5 rfl rfl)
theorem dX3_joins_147 : decode cX3_joins 147 = .ok (.iconst 5, 1) := dk_8 (dk_at dksX3_joins_6 6 rfl rfl)
theorem dX3_joins_148 : decode cX3_joins 148 = .ok (.if_icmp .ne 23, 3) := dk_160 0 23 (dk_at dksX3_joins_6 7 rfl rfl)
theorem dX3_joins_151 : decode cX3_joins 151 = .ok (.lload 4, 2) := dk_22 4 (dk_at dksX3_joins_6 10 rfl rfl)
theorem dX3_joins_153 : decode cX3_joins 153 = .ok (.ldc2_w 178, 3) := dk_20 0 178 (dk_at dksX3_joins_6 12 rfl rfl)
theorem dX3_joins_156 : decode cX3_joins 156 = .ok (.lcmp, 1) := dk_148 (dk_at dksX3_joins_6 15 rfl rfl)
theorem dX3_joins_157 : decode cX3_joins 157 = .ok (.ifCond .ne 7, 3) := dk_154 0 7 (dk_at dksX3_joins_6 16 rfl rfl)
theorem dX3_joins_160 : decode cX3_joins 160 = .ok (.lconst 0, 1) := dk_9 (dk_at dksX3_joins_6 19 rfl rfl)
theorem dX3_joins_161 : decode cX3_joins 161 = .ok (.goto 8, 3) := dk_167 0 8 (dk_at dksX3_joins_6 20 rfl rfl)
theorem dX3_joins_164 : decode cX3_joins 164 = .ok (.lload 6, 2) := dk_22 6 (dk_at dksX3_joins_7 0 rfl rfl)
theorem dX3_joins_166 : decode cX3_joins 166 = .ok (.lload 4, 2) := dk_22 4 (dk_at dksX3_joins_7 2 rfl rfl)
theorem dX3_joins_168 : decode cX3_joins 168 = .ok (.lrem, 1) := dk_113 (dk_at dksX3_joins_7 4 rfl rfl)
theorem dX3_joins_169 : decode cX3_joins 169 = .ok (.lstore 8, 2) := dk_55 8 (dk_at dksX3_joins_7 5 rfl rfl)
theorem dX3_joins_171 : decode cX3_joins 171 = .ok (.aload_n 0, 1) := dk_42 (dk_at dksX3_joins_7 7 rfl rfl)
theorem dX3_joins_172 : decode cX3_joins 172 = .ok (.iload_n 1, 1) := dk_27 (dk_at dksX3_joins_7 8 rfl rfl)
theorem dX3_joins_173 : decode cX3_joins 173 = .ok (.iload_n 2, 1) := dk_28 (dk_at dksX3_joins_7 9 rfl rfl)
theorem dX3_joins_174 : decode cX3_joins 174 = .ok (.lload 8, 2) := dk_22 8 (dk_at dksX3_joins_7 10 rfl rfl)
theorem dX3_joins_176 : decode cX3_joins 176 = .ok (.invokevirtual 171, 3) := dk_182 0 171 (dk_at dksX3_joins_7 12 rfl rfl)
theorem dX3_joins_179 : decode cX3_joins 179 = .ok (.iconst 1, 1) := dk_4 (dk_at dksX3_joins_7 15 rfl rfl)
theorem dX3_joins_180 : decode cX3_joins 180 = .ok (.ireturn, 1) := dk_172 (dk_at dksX3_joins_7 16 rfl rfl)
abbrev cX3_join : ByteArray := prog_6_method_44_code
def yX3_join : MethodName := ⟨RX3, "join", "(III)I"⟩
def dkwX3_join_9 : List UInt8 := [167, 255, 154, 42, 21, 4, 182, 0, 75, 172]
abbrev dktX3_join_9 : List UInt8 := dkwX3_join_9 ++ []
def dkwX3_join_8 : List UInt8 := [180, 0, 42, 21, 7, 47, 182, 0, 182, 154, 0, 12, 42, 16, 6, 181, 0, 65, 21, 5, 172, 132, 5, 1]
abbrev dktX3_join_8 : List UInt8 := dkwX3_join_8 ++ dktX3_join_9
def dkwX3_join_7 : List UInt8 := [154, 0, 11, 42, 4, 181, 0, 65, 21, 5, 172, 42, 21, 6, 42, 180, 0, 20, 27, 46, 29, 42]
abbrev dktX3_join_7 : List UInt8 := dkwX3_join_7 ++ dktX3_join_8
def dkwX3_join_6 : List UInt8 := [46, 46, 21, 5, 96, 54, 7, 42, 180, 0, 20, 28, 46, 6, 160, 0, 21, 42, 180, 0, 46, 21, 7, 51]
abbrev dktX3_join_6 : List UInt8 := dkwX3_join_6 ++ dktX3_join_7
def dkwX3_join_5 : List UInt8 := [180, 0, 35, 42, 180, 0, 32, 27, 46, 46, 21, 5, 96, 54, 6, 42, 180, 0, 35, 42, 180, 0, 32, 28]
abbrev dktX3_join_5 : List UInt8 := dkwX3_join_5 ++ dktX3_join_6
def dkwX3_join_4 : List UInt8 := [46, 159, 0, 10, 42, 16, 10, 182, 0, 68, 172, 3, 54, 5, 21, 5, 21, 4, 162, 0, 101, 42]
abbrev dktX3_join_4 : List UInt8 := dkwX3_join_4 ++ dktX3_join_5
def dkwX3_join_3 : List UInt8 := [180, 0, 38, 42, 180, 0, 32, 27, 46, 46, 54, 4, 21, 4, 42, 180, 0, 38, 42, 180, 0, 32, 28, 46]
abbrev dktX3_join_3 : List UInt8 := dkwX3_join_3 ++ dktX3_join_4
def dkwX3_join_2 : List UInt8 := [28, 46, 160, 0, 13, 42, 180, 0, 20, 27, 46, 7, 160, 0, 9, 42, 5, 182, 0, 68, 172, 42]
abbrev dktX3_join_2 : List UInt8 := dkwX3_join_2 ++ dktX3_join_3
def dkwX3_join_1 : List UInt8 := [28, 182, 0, 131, 154, 0, 10, 42, 16, 7, 182, 0, 68, 172, 42, 180, 0, 20, 27, 46, 42, 180, 0, 20]
abbrev dktX3_join_1 : List UInt8 := dkwX3_join_1 ++ dktX3_join_2
def dkwX3_join_0 : List UInt8 := [29, 133, 9, 20, 0, 180, 184, 0, 101, 154, 0, 6, 18, 116, 172, 42, 27, 182, 0, 131, 153, 0, 11, 42]
abbrev dktX3_join_0 : List UInt8 := dkwX3_join_0 ++ dktX3_join_1
theorem dksX3_join_0 : cX3_join.data.toList.drop 0 = dktX3_join_0 := by decide +kernel
theorem dksX3_join_1 : cX3_join.data.toList.drop 24 = dktX3_join_1 := dk_seg dksX3_join_0 24 rfl rfl
theorem dksX3_join_2 : cX3_join.data.toList.drop 48 = dktX3_join_2 := dk_seg dksX3_join_1 24 rfl rfl
theorem dksX3_join_3 : cX3_join.data.toList.drop 70 = dktX3_join_3 := dk_seg dksX3_join_2 22 rfl rfl
theorem dksX3_join_4 : cX3_join.data.toList.drop 94 = dktX3_join_4 := dk_seg dksX3_join_3 24 rfl rfl
theorem dksX3_join_5 : cX3_join.data.toList.drop 116 = dktX3_join_5 := dk_seg dksX3_join_4 22 rfl rfl
theorem dksX3_join_6 : cX3_join.data.toList.drop 140 = dktX3_join_6 := dk_seg dksX3_join_5 24 rfl rfl
theorem dksX3_join_7 : cX3_join.data.toList.drop 164 = dktX3_join_7 := dk_seg dksX3_join_6 24 rfl rfl
theorem dksX3_join_8 : cX3_join.data.toList.drop 186 = dktX3_join_8 := dk_seg dksX3_join_7 22 rfl rfl
theorem dksX3_join_9 : cX3_join.data.toList.drop 210 = dktX3_join_9 := dk_seg dksX3_join_8 24 rfl rfl
theorem dX3_join_0 : decode cX3_join 0 = .ok (.iload_n 3, 1) := dk_29 (dk_at dksX3_join_0 0 rfl rfl)
theorem dX3_join_1 : decode cX3_join 1 = .ok (.i2l, 1) := dk_133 (dk_at dksX3_join_0 1 rfl rfl)
theorem dX3_join_2 : decode cX3_join 2 = .ok (.lconst 0, 1) := dk_9 (dk_at dksX3_join_0 2 rfl rfl)
theorem dX3_join_3 : decode cX3_join 3 = .ok (.ldc2_w 180, 3) := dk_20 0 180 (dk_at dksX3_join_0 3 rfl rfl)
theorem dX3_join_6 : decode cX3_join 6 = .ok (.invokestatic 101, 3) := dk_184 0 101 (dk_at dksX3_join_0 6 rfl rfl)
theorem dX3_join_9 : decode cX3_join 9 = .ok (.ifCond .ne 6, 3) := dk_154 0 6 (dk_at dksX3_join_0 9 rfl rfl)
theorem dX3_join_12 : decode cX3_join 12 = .ok (.ldc 116, 2) := dk_18 116 (dk_at dksX3_join_0 12 rfl rfl)
theorem dX3_join_14 : decode cX3_join 14 = .ok (.ireturn, 1) := dk_172 (dk_at dksX3_join_0 14 rfl rfl)
theorem dX3_join_15 : decode cX3_join 15 = .ok (.aload_n 0, 1) := dk_42 (dk_at dksX3_join_0 15 rfl rfl)
theorem dX3_join_16 : decode cX3_join 16 = .ok (.iload_n 1, 1) := dk_27 (dk_at dksX3_join_0 16 rfl rfl)
theorem dX3_join_17 : decode cX3_join 17 = .ok (.invokevirtual 131, 3) := dk_182 0 131 (dk_at dksX3_join_0 17 rfl rfl)
theorem dX3_join_20 : decode cX3_join 20 = .ok (.ifCond .eq 11, 3) := dk_153 0 11 (dk_at dksX3_join_0 20 rfl rfl)
theorem dX3_join_23 : decode cX3_join 23 = .ok (.aload_n 0, 1) := dk_42 (dk_at dksX3_join_0 23 rfl rfl)
theorem dX3_join_24 : decode cX3_join 24 = .ok (.iload_n 2, 1) := dk_28 (dk_at dksX3_join_1 0 rfl rfl)
theorem dX3_join_25 : decode cX3_join 25 = .ok (.invokevirtual 131, 3) := dk_182 0 131 (dk_at dksX3_join_1 1 rfl rfl)
theorem dX3_join_28 : decode cX3_join 28 = .ok (.ifCond .ne 10, 3) := dk_154 0 10 (dk_at dksX3_join_1 4 rfl rfl)
theorem dX3_join_31 : decode cX3_join 31 = .ok (.aload_n 0, 1) := dk_42 (dk_at dksX3_join_1 7 rfl rfl)
theorem dX3_join_32 : decode cX3_join 32 = .ok (.bipush 7, 2) := dk_16 7 (dk_at dksX3_join_1 8 rfl rfl)
theorem dX3_join_34 : decode cX3_join 34 = .ok (.invokevirtual 68, 3) := dk_182 0 68 (dk_at dksX3_join_1 10 rfl rfl)
theorem dX3_join_37 : decode cX3_join 37 = .ok (.ireturn, 1) := dk_172 (dk_at dksX3_join_1 13 rfl rfl)
theorem dX3_join_38 : decode cX3_join 38 = .ok (.aload_n 0, 1) := dk_42 (dk_at dksX3_join_1 14 rfl rfl)
theorem dX3_join_39 : decode cX3_join 39 = .ok (.getfield 20, 3) := dk_180 0 20 (dk_at dksX3_join_1 15 rfl rfl)
theorem dX3_join_42 : decode cX3_join 42 = .ok (.iload_n 1, 1) := dk_27 (dk_at dksX3_join_1 18 rfl rfl)
theorem dX3_join_43 : decode cX3_join 43 = .ok (.iaload, 1) := dk_46 (dk_at dksX3_join_1 19 rfl rfl)
theorem dX3_join_44 : decode cX3_join 44 = .ok (.aload_n 0, 1) := dk_42 (dk_at dksX3_join_1 20 rfl rfl)
theorem dX3_join_45 : decode cX3_join 45 = .ok (.getfield 20, 3) := dk_180 0 20 (dk_at dksX3_join_1 21 rfl rfl)
theorem dX3_join_48 : decode cX3_join 48 = .ok (.iload_n 2, 1) := dk_28 (dk_at dksX3_join_2 0 rfl rfl)
theorem dX3_join_49 : decode cX3_join 49 = .ok (.iaload, 1) := dk_46 (dk_at dksX3_join_2 1 rfl rfl)
theorem dX3_join_50 : decode cX3_join 50 = .ok (.if_icmp .ne 13, 3) := dk_160 0 13 (dk_at dksX3_join_2 2 rfl rfl)
theorem dX3_join_53 : decode cX3_join 53 = .ok (.aload_n 0, 1) := dk_42 (dk_at dksX3_join_2 5 rfl rfl)
theorem dX3_join_54 : decode cX3_join 54 = .ok (.getfield 20, 3) := dk_180 0 20 (dk_at dksX3_join_2 6 rfl rfl)
theorem dX3_join_57 : decode cX3_join 57 = .ok (.iload_n 1, 1) := dk_27 (dk_at dksX3_join_2 9 rfl rfl)
theorem dX3_join_58 : decode cX3_join 58 = .ok (.iaload, 1) := dk_46 (dk_at dksX3_join_2 10 rfl rfl)
theorem dX3_join_59 : decode cX3_join 59 = .ok (.iconst 4, 1) := dk_7 (dk_at dksX3_join_2 11 rfl rfl)
theorem dX3_join_60 : decode cX3_join 60 = .ok (.if_icmp .ne 9, 3) := dk_160 0 9 (dk_at dksX3_join_2 12 rfl rfl)
theorem dX3_join_63 : decode cX3_join 63 = .ok (.aload_n 0, 1) := dk_42 (dk_at dksX3_join_2 15 rfl rfl)
theorem dX3_join_64 : decode cX3_join 64 = .ok (.iconst 2, 1) := dk_5 (dk_at dksX3_join_2 16 rfl rfl)
theorem dX3_join_65 : decode cX3_join 65 = .ok (.invokevirtual 68, 3) := dk_182 0 68 (dk_at dksX3_join_2 17 rfl rfl)
theorem dX3_join_68 : decode cX3_join 68 = .ok (.ireturn, 1) := dk_172 (dk_at dksX3_join_2 20 rfl rfl)
theorem dX3_join_69 : decode cX3_join 69 = .ok (.aload_n 0, 1) := dk_42 (dk_at dksX3_join_2 21 rfl rfl)
theorem dX3_join_70 : decode cX3_join 70 = .ok (.getfield 38, 3) := dk_180 0 38 (dk_at dksX3_join_3 0 rfl rfl)
theorem dX3_join_73 : decode cX3_join 73 = .ok (.aload_n 0, 1) := dk_42 (dk_at dksX3_join_3 3 rfl rfl)
theorem dX3_join_74 : decode cX3_join 74 = .ok (.getfield 32, 3) := dk_180 0 32 (dk_at dksX3_join_3 4 rfl rfl)
theorem dX3_join_77 : decode cX3_join 77 = .ok (.iload_n 1, 1) := dk_27 (dk_at dksX3_join_3 7 rfl rfl)
theorem dX3_join_78 : decode cX3_join 78 = .ok (.iaload, 1) := dk_46 (dk_at dksX3_join_3 8 rfl rfl)
theorem dX3_join_79 : decode cX3_join 79 = .ok (.iaload, 1) := dk_46 (dk_at dksX3_join_3 9 rfl rfl)
theorem dX3_join_80 : decode cX3_join 80 = .ok (.istore 4, 2) := dk_54 4 (dk_at dksX3_join_3 10 rfl rfl)
theorem dX3_join_82 : decode cX3_join 82 = .ok (.iload 4, 2) := dk_21 4 (dk_at dksX3_join_3 12 rfl rfl)
theorem dX3_join_84 : decode cX3_join 84 = .ok (.aload_n 0, 1) := dk_42 (dk_at dksX3_join_3 14 rfl rfl)
theorem dX3_join_85 : decode cX3_join 85 = .ok (.getfield 38, 3) := dk_180 0 38 (dk_at dksX3_join_3 15 rfl rfl)
theorem dX3_join_88 : decode cX3_join 88 = .ok (.aload_n 0, 1) := dk_42 (dk_at dksX3_join_3 18 rfl rfl)
theorem dX3_join_89 : decode cX3_join 89 = .ok (.getfield 32, 3) := dk_180 0 32 (dk_at dksX3_join_3 19 rfl rfl)
theorem dX3_join_92 : decode cX3_join 92 = .ok (.iload_n 2, 1) := dk_28 (dk_at dksX3_join_3 22 rfl rfl)
theorem dX3_join_93 : decode cX3_join 93 = .ok (.iaload, 1) := dk_46 (dk_at dksX3_join_3 23 rfl rfl)
theorem dX3_join_94 : decode cX3_join 94 = .ok (.iaload, 1) := dk_46 (dk_at dksX3_join_4 0 rfl rfl)
theorem dX3_join_95 : decode cX3_join 95 = .ok (.if_icmp .eq 10, 3) := dk_159 0 10 (dk_at dksX3_join_4 1 rfl rfl)
theorem dX3_join_98 : decode cX3_join 98 = .ok (.aload_n 0, 1) := dk_42 (dk_at dksX3_join_4 4 rfl rfl)
theorem dX3_join_99 : decode cX3_join 99 = .ok (.bipush 10, 2) := dk_16 10 (dk_at dksX3_join_4 5 rfl rfl)
theorem dX3_join_101 : decode cX3_join 101 = .ok (.invokevirtual 68, 3) := dk_182 0 68 (dk_at dksX3_join_4 7 rfl rfl)
theorem dX3_join_104 : decode cX3_join 104 = .ok (.ireturn, 1) := dk_172 (dk_at dksX3_join_4 10 rfl rfl)
theorem dX3_join_105 : decode cX3_join 105 = .ok (.iconst 0, 1) := dk_3 (dk_at dksX3_join_4 11 rfl rfl)
theorem dX3_join_106 : decode cX3_join 106 = .ok (.istore 5, 2) := dk_54 5 (dk_at dksX3_join_4 12 rfl rfl)
theorem dX3_join_108 : decode cX3_join 108 = .ok (.iload 5, 2) := dk_21 5 (dk_at dksX3_join_4 14 rfl rfl)
theorem dX3_join_110 : decode cX3_join 110 = .ok (.iload 4, 2) := dk_21 4 (dk_at dksX3_join_4 16 rfl rfl)
theorem dX3_join_112 : decode cX3_join 112 = .ok (.if_icmp .ge 101, 3) := dk_162 0 101 (dk_at dksX3_join_4 18 rfl rfl)
theorem dX3_join_115 : decode cX3_join 115 = .ok (.aload_n 0, 1) := dk_42 (dk_at dksX3_join_4 21 rfl rfl)
theorem dX3_join_116 : decode cX3_join 116 = .ok (.getfield 35, 3) := dk_180 0 35 (dk_at dksX3_join_5 0 rfl rfl)
theorem dX3_join_119 : decode cX3_join 119 = .ok (.aload_n 0, 1) := dk_42 (dk_at dksX3_join_5 3 rfl rfl)
theorem dX3_join_120 : decode cX3_join 120 = .ok (.getfield 32, 3) := dk_180 0 32 (dk_at dksX3_join_5 4 rfl rfl)
theorem dX3_join_123 : decode cX3_join 123 = .ok (.iload_n 1, 1) := dk_27 (dk_at dksX3_join_5 7 rfl rfl)
theorem dX3_join_124 : decode cX3_join 124 = .ok (.iaload, 1) := dk_46 (dk_at dksX3_join_5 8 rfl rfl)
theorem dX3_join_125 : decode cX3_join 125 = .ok (.iaload, 1) := dk_46 (dk_at dksX3_join_5 9 rfl rfl)
theorem dX3_join_126 : decode cX3_join 126 = .ok (.iload 5, 2) := dk_21 5 (dk_at dksX3_join_5 10 rfl rfl)
theorem dX3_join_128 : decode cX3_join 128 = .ok (.iadd, 1) := dk_96 (dk_at dksX3_join_5 12 rfl rfl)
theorem dX3_join_129 : decode cX3_join 129 = .ok (.istore 6, 2) := dk_54 6 (dk_at dksX3_join_5 13 rfl rfl)
theorem dX3_join_131 : decode cX3_join 131 = .ok (.aload_n 0, 1) := dk_42 (dk_at dksX3_join_5 15 rfl rfl)
theorem dX3_join_132 : decode cX3_join 132 = .ok (.getfield 35, 3) := dk_180 0 35 (dk_at dksX3_join_5 16 rfl rfl)
theorem dX3_join_135 : decode cX3_join 135 = .ok (.aload_n 0, 1) := dk_42 (dk_at dksX3_join_5 19 rfl rfl)
theorem dX3_join_136 : decode cX3_join 136 = .ok (.getfield 32, 3) := dk_180 0 32 (dk_at dksX3_join_5 20 rfl rfl)
theorem dX3_join_139 : decode cX3_join 139 = .ok (.iload_n 2, 1) := dk_28 (dk_at dksX3_join_5 23 rfl rfl)
theorem dX3_join_140 : decode cX3_join 140 = .ok (.iaload, 1) := dk_46 (dk_at dksX3_join_6 0 rfl rfl)
theorem dX3_join_141 : decode cX3_join 141 = .ok (.iaload, 1) := dk_46 (dk_at dksX3_join_6 1 rfl rfl)
theorem dX3_join_142 : decode cX3_join 142 = .ok (.iload 5, 2) := dk_21 5 (dk_at dksX3_join_6 2 rfl rfl)
theorem dX3_join_144 : decode cX3_join 144 = .ok (.iadd, 1) := dk_96 (dk_at dksX3_join_6 4 rfl rfl)
theorem dX3_join_145 : decode cX3_join 145 = .ok (.istore 7, 2) := dk_54 7 (dk_at dksX3_join_6 5 rfl rfl)
theorem dX3_join_147 : decode cX3_join 147 = .ok (.aload_n 0, 1) := dk_42 (dk_at dksX3_join_6 7 rfl rfl)
theorem dX3_join_148 : decode cX3_join 148 = .ok (.getfield 20, 3) := dk_180 0 20 (dk_at dksX3_join_6 8 rfl rfl)
theorem dX3_join_151 : decode cX3_join 151 = .ok (.iload_n 2, 1) := dk_28 (dk_at dksX3_join_6 11 rfl rfl)
theorem dX3_join_152 : decode cX3_join 152 = .ok (.iaload, 1) := dk_46 (dk_at dksX3_join_6 12 rfl rfl)
theorem dX3_join_153 : decode cX3_join 153 = .ok (.iconst 3, 1) := dk_6 (dk_at dksX3_join_6 13 rfl rfl)
theorem dX3_join_154 : decode cX3_join 154 = .ok (.if_icmp .ne 21, 3) := dk_160 0 21 (dk_at dksX3_join_6 14 rfl rfl)
theorem dX3_join_157 : decode cX3_join 157 = .ok (.aload_n 0, 1) := dk_42 (dk_at dksX3_join_6 17 rfl rfl)
theorem dX3_join_158 : decode cX3_join 158 = .ok (.getfield 46, 3) := dk_180 0 46 (dk_at dksX3_join_6 18 rfl rfl)
theorem dX3_join_161 : decode cX3_join 161 = .ok (.iload 7, 2) := dk_21 7 (dk_at dksX3_join_6 21 rfl rfl)
theorem dX3_join_163 : decode cX3_join 163 = .ok (.baload, 1) := dk_51 (dk_at dksX3_join_6 23 rfl rfl)
theorem dX3_join_164 : decode cX3_join 164 = .ok (.ifCond .ne 11, 3) := dk_154 0 11 (dk_at dksX3_join_7 0 rfl rfl)
theorem dX3_join_167 : decode cX3_join 167 = .ok (.aload_n 0, 1) := dk_42 (dk_at dksX3_join_7 3 rfl rfl)
theorem dX3_join_168 : decode cX3_join 168 = .ok (.iconst 1, 1) := dk_4 (dk_at dksX3_join_7 4 rfl rfl)
theorem dX3_join_169 : decode cX3_join 169 = .ok (.putfield 65, 3) := dk_181 0 65 (dk_at dksX3_join_7 5 rfl rfl)
theorem dX3_join_172 : decode cX3_join 172 = .ok (.iload 5, 2) := dk_21 5 (dk_at dksX3_join_7 8 rfl rfl)
theorem dX3_join_174 : decode cX3_join 174 = .ok (.ireturn, 1) := dk_172 (dk_at dksX3_join_7 10 rfl rfl)
theorem dX3_join_175 : decode cX3_join 175 = .ok (.aload_n 0, 1) := dk_42 (dk_at dksX3_join_7 11 rfl rfl)
theorem dX3_join_176 : decode cX3_join 176 = .ok (.iload 6, 2) := dk_21 6 (dk_at dksX3_join_7 12 rfl rfl)
theorem dX3_join_178 : decode cX3_join 178 = .ok (.aload_n 0, 1) := dk_42 (dk_at dksX3_join_7 14 rfl rfl)
theorem dX3_join_179 : decode cX3_join 179 = .ok (.getfield 20, 3) := dk_180 0 20 (dk_at dksX3_join_7 15 rfl rfl)
theorem dX3_join_182 : decode cX3_join 182 = .ok (.iload_n 1, 1) := dk_27 (dk_at dksX3_join_7 18 rfl rfl)
theorem dX3_join_183 : decode cX3_join 183 = .ok (.iaload, 1) := dk_46 (dk_at dksX3_join_7 19 rfl rfl)
theorem dX3_join_184 : decode cX3_join 184 = .ok (.iload_n 3, 1) := dk_29 (dk_at dksX3_join_7 20 rfl rfl)
theorem dX3_join_185 : decode cX3_join 185 = .ok (.aload_n 0, 1) := dk_42 (dk_at dksX3_join_7 21 rfl rfl)
theorem dX3_join_186 : decode cX3_join 186 = .ok (.getfield 42, 3) := dk_180 0 42 (dk_at dksX3_join_8 0 rfl rfl)
theorem dX3_join_189 : decode cX3_join 189 = .ok (.iload 7, 2) := dk_21 7 (dk_at dksX3_join_8 3 rfl rfl)
theorem dX3_join_191 : decode cX3_join 191 = .ok (.laload, 1) := dk_47 (dk_at dksX3_join_8 5 rfl rfl)
theorem dX3_join_192 : decode cX3_join 192 = .ok (.invokevirtual 182, 3) := dk_182 0 182 (dk_at dksX3_join_8 6 rfl rfl)
theorem dX3_join_195 : decode cX3_join 195 = .ok (.ifCond .ne 12, 3) := dk_154 0 12 (dk_at dksX3_join_8 9 rfl rfl)
theorem dX3_join_198 : decode cX3_join 198 = .ok (.aload_n 0, 1) := dk_42 (dk_at dksX3_join_8 12 rfl rfl)
theorem dX3_join_199 : decode cX3_join 199 = .ok (.bipush 6, 2) := dk_16 6 (dk_at dksX3_join_8 13 rfl rfl)
theorem dX3_join_201 : decode cX3_join 201 = .ok (.putfield 65, 3) := dk_181 0 65 (dk_at dksX3_join_8 15 rfl rfl)
theorem dX3_join_204 : decode cX3_join 204 = .ok (.iload 5, 2) := dk_21 5 (dk_at dksX3_join_8 18 rfl rfl)
theorem dX3_join_206 : decode cX3_join 206 = .ok (.ireturn, 1) := dk_172 (dk_at dksX3_join_8 20 rfl rfl)
theorem dX3_join_207 : decode cX3_join 207 = .ok (.iinc 5 1, 3) := dk_132 5 1 (dk_at dksX3_join_8 21 rfl rfl)
theorem dX3_join_210 : decode cX3_join 210 = .ok (.goto (-102), 3) := dk_167 255 154 (dk_at dksX3_join_9 0 rfl rfl)
theorem dX3_join_213 : decode cX3_join 213 = .ok (.aload_n 0, 1) := dk_42 (dk_at dksX3_join_9 3 rfl rfl)
theorem dX3_join_214 : decode cX3_join 214 = .ok (.iload 4, 2) := dk_21 4 (dk_at dksX3_join_9 4 rfl rfl)
theorem dX3_join_216 : decode cX3_join 216 = .ok (.invokevirtual 75, 3) := dk_182 0 75 (dk_at dksX3_join_9 6 rfl rfl)
theorem dX3_join_219 : decode cX3_join 219 = .ok (.ireturn, 1) := dk_172 (dk_at dksX3_join_9 9 rfl rfl)
abbrev cX3_sum : ByteArray := prog_6_method_46_code
def yX3_sum : MethodName := ⟨RX3, "sum", "(I)J"⟩
def dkwX3_sum_4 : List UInt8 := [132, 4, 1, 167, 255, 208, 32, 173]
abbrev dktX3_sum_4 : List UInt8 := dkwX3_sum_4 ++ []
def dkwX3_sum_3 : List UInt8 := [96, 46, 54, 5, 32, 21, 5, 2, 160, 0, 7, 9, 167, 0, 9, 42, 21, 5, 182, 0, 186, 97, 65]
abbrev dktX3_sum_3 : List UInt8 := dkwX3_sum_3 ++ dktX3_sum_4
def dkwX3_sum_2 : List UInt8 := [54, 4, 21, 4, 42, 27, 182, 0, 155, 162, 0, 44, 42, 180, 0, 50, 42, 180, 0, 32, 27, 46, 21, 4]
abbrev dktX3_sum_2 : List UInt8 := dkwX3_sum_2 ++ dktX3_sum_3
def dkwX3_sum_1 : List UInt8 := [180, 0, 20, 27, 46, 7, 159, 0, 14, 42, 42, 180, 0, 32, 27, 46, 182, 0, 186, 173, 9, 65, 3]
abbrev dktX3_sum_1 : List UInt8 := dkwX3_sum_1 ++ dktX3_sum_2
def dkwX3_sum_0 : List UInt8 := [42, 27, 182, 0, 131, 154, 0, 11, 42, 16, 7, 182, 0, 68, 133, 173, 42, 3, 181, 0, 65, 42]
abbrev dktX3_sum_0 : List UInt8 := dkwX3_sum_0 ++ dktX3_sum_1
theorem dksX3_sum_0 : cX3_sum.data.toList.drop 0 = dktX3_sum_0 := by decide +kernel
theorem dksX3_sum_1 : cX3_sum.data.toList.drop 22 = dktX3_sum_1 := dk_seg dksX3_sum_0 22 rfl rfl
theorem dksX3_sum_2 : cX3_sum.data.toList.drop 45 = dktX3_sum_2 := dk_seg dksX3_sum_1 23 rfl rfl
theorem dksX3_sum_3 : cX3_sum.data.toList.drop 69 = dktX3_sum_3 := dk_seg dksX3_sum_2 24 rfl rfl
theorem dksX3_sum_4 : cX3_sum.data.toList.drop 92 = dktX3_sum_4 := dk_seg dksX3_sum_3 23 rfl rfl
theorem dX3_sum_0 : decode cX3_sum 0 = .ok (.aload_n 0, 1) := dk_42 (dk_at dksX3_sum_0 0 rfl rfl)
theorem dX3_sum_1 : decode cX3_sum 1 = .ok (.iload_n 1, 1) := dk_27 (dk_at dksX3_sum_0 1 rfl rfl)
theorem dX3_sum_2 : decode cX3_sum 2 = .ok (.invokevirtual 131, 3) := dk_182 0 131 (dk_at dksX3_sum_0 2 rfl rfl)
theorem dX3_sum_5 : decode cX3_sum 5 = .ok (.ifCond .ne 11, 3) := dk_154 0 11 (dk_at dksX3_sum_0 5 rfl rfl)
theorem dX3_sum_8 : decode cX3_sum 8 = .ok (.aload_n 0, 1) := dk_42 (dk_at dksX3_sum_0 8 rfl rfl)
theorem dX3_sum_9 : decode cX3_sum 9 = .ok (.bipush 7, 2) := dk_16 7 (dk_at dksX3_sum_0 9 rfl rfl)
theorem dX3_sum_11 : decode cX3_sum 11 = .ok (.invokevirtual 68, 3) := dk_182 0 68 (dk_at dksX3_sum_0 11 rfl rfl)
theorem dX3_sum_14 : decode cX3_sum 14 = .ok (.i2l, 1) := dk_133 (dk_at dksX3_sum_0 14 rfl rfl)
theorem dX3_sum_15 : decode cX3_sum 15 = .ok (.lreturn, 1) := dk_173 (dk_at dksX3_sum_0 15 rfl rfl)
theorem dX3_sum_16 : decode cX3_sum 16 = .ok (.aload_n 0, 1) := dk_42 (dk_at dksX3_sum_0 16 rfl rfl)
theorem dX3_sum_17 : decode cX3_sum 17 = .ok (.iconst 0, 1) := dk_3 (dk_at dksX3_sum_0 17 rfl rfl)
theorem dX3_sum_18 : decode cX3_sum 18 = .ok (.putfield 65, 3) := dk_181 0 65 (dk_at dksX3_sum_0 18 rfl rfl)
theorem dX3_sum_21 : decode cX3_sum 21 = .ok (.aload_n 0, 1) := dk_42 (dk_at dksX3_sum_0 21 rfl rfl)
theorem dX3_sum_22 : decode cX3_sum 22 = .ok (.getfield 20, 3) := dk_180 0 20 (dk_at dksX3_sum_1 0 rfl rfl)
theorem dX3_sum_25 : decode cX3_sum 25 = .ok (.iload_n 1, 1) := dk_27 (dk_at dksX3_sum_1 3 rfl rfl)
theorem dX3_sum_26 : decode cX3_sum 26 = .ok (.iaload, 1) := dk_46 (dk_at dksX3_sum_1 4 rfl rfl)
theorem dX3_sum_27 : decode cX3_sum 27 = .ok (.iconst 4, 1) := dk_7 (dk_at dksX3_sum_1 5 rfl rfl)
theorem dX3_sum_28 : decode cX3_sum 28 = .ok (.if_icmp .eq 14, 3) := dk_159 0 14 (dk_at dksX3_sum_1 6 rfl rfl)
theorem dX3_sum_31 : decode cX3_sum 31 = .ok (.aload_n 0, 1) := dk_42 (dk_at dksX3_sum_1 9 rfl rfl)
theorem dX3_sum_32 : decode cX3_sum 32 = .ok (.aload_n 0, 1) := dk_42 (dk_at dksX3_sum_1 10 rfl rfl)
theorem dX3_sum_33 : decode cX3_sum 33 = .ok (.getfield 32, 3) := dk_180 0 32 (dk_at dksX3_sum_1 11 rfl rfl)
theorem dX3_sum_36 : decode cX3_sum 36 = .ok (.iload_n 1, 1) := dk_27 (dk_at dksX3_sum_1 14 rfl rfl)
theorem dX3_sum_37 : decode cX3_sum 37 = .ok (.iaload, 1) := dk_46 (dk_at dksX3_sum_1 15 rfl rfl)
theorem dX3_sum_38 : decode cX3_sum 38 = .ok (.invokevirtual 186, 3) := dk_182 0 186 (dk_at dksX3_sum_1 16 rfl rfl)
theorem dX3_sum_41 : decode cX3_sum 41 = .ok (.lreturn, 1) := dk_173 (dk_at dksX3_sum_1 19 rfl rfl)
theorem dX3_sum_42 : decode cX3_sum 42 = .ok (.lconst 0, 1) := dk_9 (dk_at dksX3_sum_1 20 rfl rfl)
theorem dX3_sum_43 : decode cX3_sum 43 = .ok (.lstore_n 2, 1) := dk_65 (dk_at dksX3_sum_1 21 rfl rfl)
theorem dX3_sum_44 : decode cX3_sum 44 = .ok (.iconst 0, 1) := dk_3 (dk_at dksX3_sum_1 22 rfl rfl)
theorem dX3_sum_45 : decode cX3_sum 45 = .ok (.istore 4, 2) := dk_54 4 (dk_at dksX3_sum_2 0 rfl rfl)
theorem dX3_sum_47 : decode cX3_sum 47 = .ok (.iload 4, 2) := dk_21 4 (dk_at dksX3_sum_2 2 rfl rfl)
theorem dX3_sum_49 : decode cX3_sum 49 = .ok (.aload_n 0, 1) := dk_42 (dk_at dksX3_sum_2 4 rfl rfl)
theorem dX3_sum_50 : decode cX3_sum 50 = .ok (.iload_n 1, 1) := dk_27 (dk_at dksX3_sum_2 5 rfl rfl)
theorem dX3_sum_51 : decode cX3_sum 51 = .ok (.invokevirtual 155, 3) := dk_182 0 155 (dk_at dksX3_sum_2 6 rfl rfl)
theorem dX3_sum_54 : decode cX3_sum 54 = .ok (.if_icmp .ge 44, 3) := dk_162 0 44 (dk_at dksX3_sum_2 9 rfl rfl)
theorem dX3_sum_57 : decode cX3_sum 57 = .ok (.aload_n 0, 1) := dk_42 (dk_at dksX3_sum_2 12 rfl rfl)
theorem dX3_sum_58 : decode cX3_sum 58 = .ok (.getfield 50, 3) := dk_180 0 50 (dk_at dksX3_sum_2 13 rfl rfl)
theorem dX3_sum_61 : decode cX3_sum 61 = .ok (.aload_n 0, 1) := dk_42 (dk_at dksX3_sum_2 16 rfl rfl)
theorem dX3_sum_62 : decode cX3_sum 62 = .ok (.getfield 32, 3) := dk_180 0 32 (dk_at dksX3_sum_2 17 rfl rfl)
theorem dX3_sum_65 : decode cX3_sum 65 = .ok (.iload_n 1, 1) := dk_27 (dk_at dksX3_sum_2 20 rfl rfl)
theorem dX3_sum_66 : decode cX3_sum 66 = .ok (.iaload, 1) := dk_46 (dk_at dksX3_sum_2 21 rfl rfl)
theorem dX3_sum_67 : decode cX3_sum 67 = .ok (.iload 4, 2) := dk_21 4 (dk_at dksX3_sum_2 22 rfl rfl)
theorem dX3_sum_69 : decode cX3_sum 69 = .ok (.iadd, 1) := dk_96 (dk_at dksX3_sum_3 0 rfl rfl)
theorem dX3_sum_70 : decode cX3_sum 70 = .ok (.iaload, 1) := dk_46 (dk_at dksX3_sum_3 1 rfl rfl)
theorem dX3_sum_71 : decode cX3_sum 71 = .ok (.istore 5, 2) := dk_54 5 (dk_at dksX3_sum_3 2 rfl rfl)
theorem dX3_sum_73 : decode cX3_sum 73 = .ok (.lload_n 2, 1) := dk_32 (dk_at dksX3_sum_3 4 rfl rfl)
theorem dX3_sum_74 : decode cX3_sum 74 = .ok (.iload 5, 2) := dk_21 5 (dk_at dksX3_sum_3 5 rfl rfl)
theorem dX3_sum_76 : decode cX3_sum 76 = .ok (.iconst (-1), 1) := dk_2 (dk_at dksX3_sum_3 7 rfl rfl)
theorem dX3_sum_77 : decode cX3_sum 77 = .ok (.if_icmp .ne 7, 3) := dk_160 0 7 (dk_at dksX3_sum_3 8 rfl rfl)
theorem dX3_sum_80 : decode cX3_sum 80 = .ok (.lconst 0, 1) := dk_9 (dk_at dksX3_sum_3 11 rfl rfl)
theorem dX3_sum_81 : decode cX3_sum 81 = .ok (.goto 9, 3) := dk_167 0 9 (dk_at dksX3_sum_3 12 rfl rfl)
theorem dX3_sum_84 : decode cX3_sum 84 = .ok (.aload_n 0, 1) := dk_42 (dk_at dksX3_sum_3 15 rfl rfl)
theorem dX3_sum_85 : decode cX3_sum 85 = .ok (.iload 5, 2) := dk_21 5 (dk_at dksX3_sum_3 16 rfl rfl)
theorem dX3_sum_87 : decode cX3_sum 87 = .ok (.invokevirtual 186, 3) := dk_182 0 186 (dk_at dksX3_sum_3 18 rfl rfl)
theorem dX3_sum_90 : decode cX3_sum 90 = .ok (.ladd, 1) := dk_97 (dk_at dksX3_sum_3 21 rfl rfl)
theorem dX3_sum_91 : decode cX3_sum 91 = .ok (.lstore_n 2, 1) := dk_65 (dk_at dksX3_sum_3 22 rfl rfl)
theorem dX3_sum_92 : decode cX3_sum 92 = .ok (.iinc 4 1, 3) := dk_132 4 1 (dk_at dksX3_sum_4 0 rfl rfl)
theorem dX3_sum_95 : decode cX3_sum 95 = .ok (.goto (-48), 3) := dk_167 255 208 (dk_at dksX3_sum_4 3 rfl rfl)
theorem dX3_sum_98 : decode cX3_sum 98 = .ok (.lload_n 2, 1) := dk_32 (dk_at dksX3_sum_4 6 rfl rfl)
theorem dX3_sum_99 : decode cX3_sum 99 = .ok (.lreturn, 1) := dk_173 (dk_at dksX3_sum_4 7 rfl rfl)
abbrev cX3_sumOf : ByteArray := prog_6_method_45_code
def yX3_sumOf : MethodName := ⟨RX3, "sumOf", "(I)J"⟩
def dkwX3_sumOf_1 : List UInt8 := [180, 0, 35, 27, 46, 21, 4, 96, 47, 97, 65, 132, 4, 1, 167, 255, 225, 32, 173]
abbrev dktX3_sumOf_1 : List UInt8 := dkwX3_sumOf_1 ++ []
def dkwX3_sumOf_0 : List UInt8 := [9, 65, 3, 54, 4, 21, 4, 42, 180, 0, 38, 27, 46, 162, 0, 26, 32, 42, 180, 0, 42, 42]
abbrev dktX3_sumOf_0 : List UInt8 := dkwX3_sumOf_0 ++ dktX3_sumOf_1
theorem dksX3_sumOf_0 : cX3_sumOf.data.toList.drop 0 = dktX3_sumOf_0 := by decide +kernel
theorem dksX3_sumOf_1 : cX3_sumOf.data.toList.drop 22 = dktX3_sumOf_1 := dk_seg dksX3_sumOf_0 22 rfl rfl
theorem dX3_sumOf_0 : decode cX3_sumOf 0 = .ok (.lconst 0, 1) := dk_9 (dk_at dksX3_sumOf_0 0 rfl rfl)
theorem dX3_sumOf_1 : decode cX3_sumOf 1 = .ok (.lstore_n 2, 1) := dk_65 (dk_at dksX3_sumOf_0 1 rfl rfl)
theorem dX3_sumOf_2 : decode cX3_sumOf 2 = .ok (.iconst 0, 1) := dk_3 (dk_at dksX3_sumOf_0 2 rfl rfl)
theorem dX3_sumOf_3 : decode cX3_sumOf 3 = .ok (.istore 4, 2) := dk_54 4 (dk_at dksX3_sumOf_0 3 rfl rfl)
theorem dX3_sumOf_5 : decode cX3_sumOf 5 = .ok (.iload 4, 2) := dk_21 4 (dk_at dksX3_sumOf_0 5 rfl rfl)
theorem dX3_sumOf_7 : decode cX3_sumOf 7 = .ok (.aload_n 0, 1) := dk_42 (dk_at dksX3_sumOf_0 7 rfl rfl)
theorem dX3_sumOf_8 : decode cX3_sumOf 8 = .ok (.getfield 38, 3) := dk_180 0 38 (dk_at dksX3_sumOf_0 8 rfl rfl)
theorem dX3_sumOf_11 : decode cX3_sumOf 11 = .ok (.iload_n 1, 1) := dk_27 (dk_at dksX3_sumOf_0 11 rfl rfl)
theorem dX3_sumOf_12 : decode cX3_sumOf 12 = .ok (.iaload, 1) := dk_46 (dk_at dksX3_sumOf_0 12 rfl rfl)
theorem dX3_sumOf_13 : decode cX3_sumOf 13 = .ok (.if_icmp .ge 26, 3) := dk_162 0 26 (dk_at dksX3_sumOf_0 13 rfl rfl)
theorem dX3_sumOf_16 : decode cX3_sumOf 16 = .ok (.lload_n 2, 1) := dk_32 (dk_at dksX3_sumOf_0 16 rfl rfl)
theorem dX3_sumOf_17 : decode cX3_sumOf 17 = .ok (.aload_n 0, 1) := dk_42 (dk_at dksX3_sumOf_0 17 rfl rfl)
theorem dX3_sumOf_18 : decode cX3_sumOf 18 = .ok (.getfield 42, 3) := dk_180 0 42 (dk_at dksX3_sumOf_0 18 rfl rfl)
theorem dX3_sumOf_21 : decode cX3_sumOf 21 = .ok (.aload_n 0, 1) := dk_42 (dk_at dksX3_sumOf_0 21 rfl rfl)
theorem dX3_sumOf_22 : decode cX3_sumOf 22 = .ok (.getfield 35, 3) := dk_180 0 35 (dk_at dksX3_sumOf_1 0 rfl rfl)
theorem dX3_sumOf_25 : decode cX3_sumOf 25 = .ok (.iload_n 1, 1) := dk_27 (dk_at dksX3_sumOf_1 3 rfl rfl)
theorem dX3_sumOf_26 : decode cX3_sumOf 26 = .ok (.iaload, 1) := dk_46 (dk_at dksX3_sumOf_1 4 rfl rfl)
theorem dX3_sumOf_27 : decode cX3_sumOf 27 = .ok (.iload 4, 2) := dk_21 4 (dk_at dksX3_sumOf_1 5 rfl rfl)
theorem dX3_sumOf_29 : decode cX3_sumOf 29 = .ok (.iadd, 1) := dk_96 (dk_at dksX3_sumOf_1 7 rfl rfl)
theorem dX3_sumOf_30 : decode cX3_sumOf 30 = .ok (.laload, 1) := dk_47 (dk_at dksX3_sumOf_1 8 rfl rfl)
theorem dX3_sumOf_31 : decode cX3_sumOf 31 = .ok (.ladd, 1) := dk_97 (dk_at dksX3_sumOf_1 9 rfl rfl)
theorem dX3_sumOf_32 : decode cX3_sumOf 32 = .ok (.lstore_n 2, 1) := dk_65 (dk_at dksX3_sumOf_1 10 rfl rfl)
theorem dX3_sumOf_33 : decode cX3_sumOf 33 = .ok (.iinc 4 1, 3) := dk_132 4 1 (dk_at dksX3_sumOf_1 11 rfl rfl)
theorem dX3_sumOf_36 : decode cX3_sumOf 36 = .ok (.goto (-31), 3) := dk_167 255 225 (dk_at dksX3_sumOf_1 14 rfl rfl)
theorem dX3_sumOf_39 : decode cX3_sumOf 39 = .ok (.lload_n 2, 1) := dk_32 (dk_at dksX3_sumOf_1 17 rfl rfl)
theorem dX3_sumOf_40 : decode cX3_sumOf 40 = .ok (.lreturn, 1) := dk_173 (dk_at dksX3_sumOf_1 18 rfl rfl)
abbrev cX3_mean : ByteArray := prog_6_method_47_code
def yX3_mean : MethodName := ⟨RX3, "mean", "(I)J"⟩
def dkwX3_mean_3 : List UInt8 := [182, 0, 186, 42, 180, 0, 38, 42, 180, 0, 32, 27, 46, 46, 133, 109, 173]
abbrev dktX3_mean_3 : List UInt8 := dkwX3_mean_3 ++ []
def dkwX3_mean_2 : List UInt8 := [28, 153, 0, 10, 42, 28, 182, 0, 68, 133, 173, 42, 3, 181, 0, 65, 42, 42, 180, 0, 32, 27, 46]
abbrev dktX3_mean_2 : List UInt8 := dkwX3_mean_2 ++ dktX3_mean_3
def dkwX3_mean_1 : List UInt8 := [167, 0, 23, 42, 180, 0, 38, 42, 180, 0, 32, 27, 46, 46, 154, 0, 8, 16, 6, 167, 0, 4, 3, 61]
abbrev dktX3_mean_1 : List UInt8 := dkwX3_mean_1 ++ dktX3_mean_2
def dkwX3_mean_0 : List UInt8 := [42, 27, 182, 0, 131, 154, 0, 8, 16, 7, 167, 0, 37, 42, 180, 0, 20, 27, 46, 6, 161, 0, 7, 5]
abbrev dktX3_mean_0 : List UInt8 := dkwX3_mean_0 ++ dktX3_mean_1
theorem dksX3_mean_0 : cX3_mean.data.toList.drop 0 = dktX3_mean_0 := by decide +kernel
theorem dksX3_mean_1 : cX3_mean.data.toList.drop 24 = dktX3_mean_1 := dk_seg dksX3_mean_0 24 rfl rfl
theorem dksX3_mean_2 : cX3_mean.data.toList.drop 48 = dktX3_mean_2 := dk_seg dksX3_mean_1 24 rfl rfl
theorem dksX3_mean_3 : cX3_mean.data.toList.drop 71 = dktX3_mean_3 := dk_seg dksX3_mean_2 23 rfl rfl
theorem dX3_mean_0 : decode cX3_mean 0 = .ok (.aload_n 0, 1) := dk_42 (dk_at dksX3_mean_0 0 rfl rfl)
theorem dX3_mean_1 : decode cX3_mean 1 = .ok (.iload_n 1, 1) := dk_27 (dk_at dksX3_mean_0 1 rfl rfl)
theorem dX3_mean_2 : decode cX3_mean 2 = .ok (.invokevirtual 131, 3) := dk_182 0 131 (dk_at dksX3_mean_0 2 rfl rfl)
theorem dX3_mean_5 : decode cX3_mean 5 = .ok (.ifCond .ne 8, 3) := dk_154 0 8 (dk_at dksX3_mean_0 5 rfl rfl)
theorem dX3_mean_8 : decode cX3_mean 8 = .ok (.bipush 7, 2) := dk_16 7 (dk_at dksX3_mean_0 8 rfl rfl)
theorem dX3_mean_10 : decode cX3_mean 10 = .ok (.goto 37, 3) := dk_167 0 37 (dk_at dksX3_mean_0 10 rfl rfl)
theorem dX3_mean_13 : decode cX3_mean 13 = .ok (.aload_n 0, 1) := dk_42 (dk_at dksX3_mean_0 13 rfl rfl)
theorem dX3_mean_14 : decode cX3_mean 14 = .ok (.getfield 20, 3) := dk_180 0 20 (dk_at dksX3_mean_0 14 rfl rfl)
theorem dX3_mean_17 : decode cX3_mean 17 = .ok (.iload_n 1, 1) := dk_27 (dk_at dksX3_mean_0 17 rfl rfl)
theorem dX3_mean_18 : decode cX3_mean 18 = .ok (.iaload, 1) := dk_46 (dk_at dksX3_mean_0 18 rfl rfl)
theorem dX3_mean_19 : decode cX3_mean 19 = .ok (.iconst 3, 1) := dk_6 (dk_at dksX3_mean_0 19 rfl rfl)
theorem dX3_mean_20 : decode cX3_mean 20 = .ok (.if_icmp .lt 7, 3) := dk_161 0 7 (dk_at dksX3_mean_0 20 rfl rfl)
theorem dX3_mean_23 : decode cX3_mean 23 = .ok (.iconst 2, 1) := dk_5 (dk_at dksX3_mean_0 23 rfl rfl)
theorem dX3_mean_24 : decode cX3_mean 24 = .ok (.goto 23, 3) := dk_167 0 23 (dk_at dksX3_mean_1 0 rfl rfl)
theorem dX3_mean_27 : decode cX3_mean 27 = .ok (.aload_n 0, 1) := dk_42 (dk_at dksX3_mean_1 3 rfl rfl)
theorem dX3_mean_28 : decode cX3_mean 28 = .ok (.getfield 38, 3) := dk_180 0 38 (dk_at dksX3_mean_1 4 rfl rfl)
theorem dX3_mean_31 : decode cX3_mean 31 = .ok (.aload_n 0, 1) := dk_42 (dk_at dksX3_mean_1 7 rfl rfl)
theorem dX3_mean_32 : decode cX3_mean 32 = .ok (.getfield 32, 3) := dk_180 0 32 (dk_at dksX3_mean_1 8 rfl rfl)
theorem dX3_mean_35 : decode cX3_mean 35 = .ok (.iload_n 1, 1) := dk_27 (dk_at dksX3_mean_1 11 rfl rfl)
theorem dX3_mean_36 : decode cX3_mean 36 = .ok (.iaload, 1) := dk_46 (dk_at dksX3_mean_1 12 rfl rfl)
theorem dX3_mean_37 : decode cX3_mean 37 = .ok (.iaload, 1) := dk_46 (dk_at dksX3_mean_1 13 rfl rfl)
theorem dX3_mean_38 : decode cX3_mean 38 = .ok (.ifCond .ne 8, 3) := dk_154 0 8 (dk_at dksX3_mean_1 14 rfl rfl)
theorem dX3_mean_41 : decode cX3_mean 41 = .ok (.bipush 6, 2) := dk_16 6 (dk_at dksX3_mean_1 17 rfl rfl)
theorem dX3_mean_43 : decode cX3_mean 43 = .ok (.goto 4, 3) := dk_167 0 4 (dk_at dksX3_mean_1 19 rfl rfl)
theorem dX3_mean_46 : decode cX3_mean 46 = .ok (.iconst 0, 1) := dk_3 (dk_at dksX3_mean_1 22 rfl rfl)
theorem dX3_mean_47 : decode cX3_mean 47 = .ok (.istore_n 2, 1) := dk_61 (dk_at dksX3_mean_1 23 rfl rfl)
theorem dX3_mean_48 : decode cX3_mean 48 = .ok (.iload_n 2, 1) := dk_28 (dk_at dksX3_mean_2 0 rfl rfl)
theorem dX3_mean_49 : decode cX3_mean 49 = .ok (.ifCond .eq 10, 3) := dk_153 0 10 (dk_at dksX3_mean_2 1 rfl rfl)
theorem dX3_mean_52 : decode cX3_mean 52 = .ok (.aload_n 0, 1) := dk_42 (dk_at dksX3_mean_2 4 rfl rfl)
theorem dX3_mean_53 : decode cX3_mean 53 = .ok (.iload_n 2, 1) := dk_28 (dk_at dksX3_mean_2 5 rfl rfl)
theorem dX3_mean_54 : decode cX3_mean 54 = .ok (.invokevirtual 68, 3) := dk_182 0 68 (dk_at dksX3_mean_2 6 rfl rfl)
theorem dX3_mean_57 : decode cX3_mean 57 = .ok (.i2l, 1) := dk_133 (dk_at dksX3_mean_2 9 rfl rfl)
theorem dX3_mean_58 : decode cX3_mean 58 = .ok (.lreturn, 1) := dk_173 (dk_at dksX3_mean_2 10 rfl rfl)
theorem dX3_mean_59 : decode cX3_mean 59 = .ok (.aload_n 0, 1) := dk_42 (dk_at dksX3_mean_2 11 rfl rfl)
theorem dX3_mean_60 : decode cX3_mean 60 = .ok (.iconst 0, 1) := dk_3 (dk_at dksX3_mean_2 12 rfl rfl)
theorem dX3_mean_61 : decode cX3_mean 61 = .ok (.putfield 65, 3) := dk_181 0 65 (dk_at dksX3_mean_2 13 rfl rfl)
theorem dX3_mean_64 : decode cX3_mean 64 = .ok (.aload_n 0, 1) := dk_42 (dk_at dksX3_mean_2 16 rfl rfl)
theorem dX3_mean_65 : decode cX3_mean 65 = .ok (.aload_n 0, 1) := dk_42 (dk_at dksX3_mean_2 17 rfl rfl)
theorem dX3_mean_66 : decode cX3_mean 66 = .ok (.getfield 32, 3) := dk_180 0 32 (dk_at dksX3_mean_2 18 rfl rfl)
theorem dX3_mean_69 : decode cX3_mean 69 = .ok (.iload_n 1, 1) := dk_27 (dk_at dksX3_mean_2 21 rfl rfl)
theorem dX3_mean_70 : decode cX3_mean 70 = .ok (.iaload, 1) := dk_46 (dk_at dksX3_mean_2 22 rfl rfl)
theorem dX3_mean_71 : decode cX3_mean 71 = .ok (.invokevirtual 186, 3) := dk_182 0 186 (dk_at dksX3_mean_3 0 rfl rfl)
theorem dX3_mean_74 : decode cX3_mean 74 = .ok (.aload_n 0, 1) := dk_42 (dk_at dksX3_mean_3 3 rfl rfl)
theorem dX3_mean_75 : decode cX3_mean 75 = .ok (.getfield 38, 3) := dk_180 0 38 (dk_at dksX3_mean_3 4 rfl rfl)
theorem dX3_mean_78 : decode cX3_mean 78 = .ok (.aload_n 0, 1) := dk_42 (dk_at dksX3_mean_3 7 rfl rfl)
theorem dX3_mean_79 : decode cX3_mean 79 = .ok (.getfield 32, 3) := dk_180 0 32 (dk_at dksX3_mean_3 8 rfl rfl)
theorem dX3_mean_82 : decode cX3_mean 82 = .ok (.iload_n 1, 1) := dk_27 (dk_at dksX3_mean_3 11 rfl rfl)
theorem dX3_mean_83 : decode cX3_mean 83 = .ok (.iaload, 1) := dk_46 (dk_at dksX3_mean_3 12 rfl rfl)
theorem dX3_mean_84 : decode cX3_mean 84 = .ok (.iaload, 1) := dk_46 (dk_at dksX3_mean_3 13 rfl rfl)
theorem dX3_mean_85 : decode cX3_mean 85 = .ok (.i2l, 1) := dk_133 (dk_at dksX3_mean_3 14 rfl rfl)
theorem dX3_mean_86 : decode cX3_mean 86 = .ok (.ldiv, 1) := dk_109 (dk_at dksX3_mean_3 15 rfl rfl)
theorem dX3_mean_87 : decode cX3_mean 87 = .ok (.lreturn, 1) := dk_173 (dk_at dksX3_mean_3 16 rfl rfl)
abbrev cX3_about : ByteArray := prog_6_method_48_code
def yX3_about : MethodName := ⟨RX3, "about", "(II)I"⟩
def dkwX3_about_9 : List UInt8 := [96, 46, 182, 0, 75, 172]
abbrev dktX3_about_9 : List UInt8 := dkwX3_about_9 ++ []
def dkwX3_about_8 : List UInt8 := [160, 0, 16, 42, 180, 0, 26, 6, 27, 104, 29, 96, 46, 167, 0, 13, 42, 180, 0, 29, 6, 27, 104, 29]
abbrev dktX3_about_8 : List UInt8 := dkwX3_about_8 ++ dktX3_about_9
def dkwX3_about_7 : List UInt8 := [108, 62, 29, 42, 180, 0, 23, 27, 46, 161, 0, 10, 42, 16, 9, 182, 0, 68, 172, 42, 28, 5, 112, 4]
abbrev dktX3_about_7 : List UInt8 := dkwX3_about_7 ++ dktX3_about_8
def dkwX3_about_6 : List UInt8 := [180, 0, 38, 21, 5, 46, 96, 62, 132, 4, 1, 167, 255, 197, 42, 29, 182, 0, 75, 172, 28, 6, 100, 5]
abbrev dktX3_about_6 : List UInt8 := dkwX3_about_6 ++ dktX3_about_7
def dkwX3_about_5 : List UInt8 := [42, 180, 0, 32, 27, 46, 21, 4, 96, 46, 54, 5, 29, 21, 5, 2, 160, 0, 7, 3, 167, 0, 10, 42]
abbrev dktX3_about_5 : List UInt8 := dkwX3_about_5 ++ dktX3_about_6
def dkwX3_about_4 : List UInt8 := [42, 180, 0, 20, 27, 46, 7, 160, 0, 55, 21, 4, 42, 27, 182, 0, 155, 162, 0, 45, 42, 180, 0, 50]
abbrev dktX3_about_4 : List UInt8 := dkwX3_about_4 ++ dktX3_about_5
def dkwX3_about_3 : List UInt8 := [46, 7, 160, 0, 7, 3, 167, 0, 14, 42, 180, 0, 38, 42, 180, 0, 32, 27, 46, 46, 62, 3, 54, 4]
abbrev dktX3_about_3 : List UInt8 := dkwX3_about_3 ++ dktX3_about_4
def dkwX3_about_2 : List UInt8 := [160, 0, 14, 42, 42, 180, 0, 23, 27, 46, 182, 0, 75, 172, 28, 5, 160, 0, 100, 42, 180, 0, 20, 27]
abbrev dktX3_about_2 : List UInt8 := dkwX3_about_2 ++ dktX3_about_3
def dkwX3_about_1 : List UInt8 := [16, 7, 182, 0, 68, 172, 28, 154, 0, 14, 42, 42, 180, 0, 20, 27, 46, 182, 0, 75, 172, 28, 4]
abbrev dktX3_about_1 : List UInt8 := dkwX3_about_1 ++ dktX3_about_2
def dkwX3_about_0 : List UInt8 := [28, 133, 9, 20, 0, 190, 184, 0, 101, 154, 0, 6, 18, 116, 172, 42, 27, 182, 0, 131, 154, 0, 10, 42]
abbrev dktX3_about_0 : List UInt8 := dkwX3_about_0 ++ dktX3_about_1
theorem dksX3_about_0 : cX3_about.data.toList.drop 0 = dktX3_about_0 := by decide +kernel
theorem dksX3_about_1 : cX3_about.data.toList.drop 24 = dktX3_about_1 := dk_seg dksX3_about_0 24 rfl rfl
theorem dksX3_about_2 : cX3_about.data.toList.drop 47 = dktX3_about_2 := dk_seg dksX3_about_1 23 rfl rfl
theorem dksX3_about_3 : cX3_about.data.toList.drop 71 = dktX3_about_3 := dk_seg dksX3_about_2 24 rfl rfl
theorem dksX3_about_4 : cX3_about.data.toList.drop 95 = dktX3_about_4 := dk_seg dksX3_about_3 24 rfl rfl
theorem dksX3_about_5 : cX3_about.data.toList.drop 119 = dktX3_about_5 := dk_seg dksX3_about_4 24 rfl rfl
theorem dksX3_about_6 : cX3_about.data.toList.drop 143 = dktX3_about_6 := dk_seg dksX3_about_5 24 rfl rfl
theorem dksX3_about_7 : cX3_about.data.toList.drop 167 = dktX3_about_7 := dk_seg dksX3_about_6 24 rfl rfl
theorem dksX3_about_8 : cX3_about.data.toList.drop 191 = dktX3_about_8 := dk_seg dksX3_about_7 24 rfl rfl
theorem dksX3_about_9 : cX3_about.data.toList.drop 215 = dktX3_about_9 := dk_seg dksX3_about_8 24 rfl rfl
theorem dX3_about_0 : decode cX3_about 0 = .ok (.iload_n 2, 1) := dk_28 (dk_at dksX3_about_0 0 rfl rfl)
theorem dX3_about_1 : decode cX3_about 1 = .ok (.i2l, 1) := dk_133 (dk_at dksX3_about_0 1 rfl rfl)
theorem dX3_about_2 : decode cX3_about 2 = .ok (.lconst 0, 1) := dk_9 (dk_at dksX3_about_0 2 rfl rfl)
theorem dX3_about_3 : decode cX3_about 3 = .ok (.ldc2_w 190, 3) := dk_20 0 190 (dk_at dksX3_about_0 3 rfl rfl)
theorem dX3_about_6 : decode cX3_about 6 = .ok (.invokestatic 101, 3) := dk_184 0 101 (dk_at dksX3_about_0 6 rfl rfl)
theorem dX3_about_9 : decode cX3_about 9 = .ok (.ifCond .ne 6, 3) := dk_154 0 6 (dk_at dksX3_about_0 9 rfl rfl)
theorem dX3_about_12 : decode cX3_about 12 = .ok (.ldc 116, 2) := dk_18 116 (dk_at dksX3_about_0 12 rfl rfl)
theorem dX3_about_14 : decode cX3_about 14 = .ok (.ireturn, 1) := dk_172 (dk_at dksX3_about_0 14 rfl rfl)
theorem dX3_about_15 : decode cX3_about 15 = .ok (.aload_n 0, 1) := dk_42 (dk_at dksX3_about_0 15 rfl rfl)
theorem dX3_about_16 : decode cX3_about 16 = .ok (.iload_n 1, 1) := dk_27 (dk_at dksX3_about_0 16 rfl rfl)
theorem dX3_about_17 : decode cX3_about 17 = .ok (.invokevirtual 131, 3) := dk_182 0 131 (dk_at dksX3_about_0 17 rfl rfl)
theorem dX3_about_20 : decode cX3_about 20 = .ok (.ifCond .ne 10, 3) := dk_154 0 10 (dk_at dksX3_about_0 20 rfl rfl)
theorem dX3_about_23 : decode cX3_about 23 = .ok (.aload_n 0, 1) := dk_42 (dk_at dksX3_about_0 23 rfl rfl)
theorem dX3_about_24 : decode cX3_about 24 = .ok (.bipush 7, 2) := dk_16 7 (dk_at dksX3_about_1 0 rfl rfl)
theorem dX3_about_26 : decode cX3_about 26 = .ok (.invokevirtual 68, 3) := dk_182 0 68 (dk_at dksX3_about_1 2 rfl rfl)
theorem dX3_about_29 : decode cX3_about 29 = .ok (.ireturn, 1) := dk_172 (dk_at dksX3_about_1 5 rfl rfl)
theorem dX3_about_30 : decode cX3_about 30 = .ok (.iload_n 2, 1) := dk_28 (dk_at dksX3_about_1 6 rfl rfl)
theorem dX3_about_31 : decode cX3_about 31 = .ok (.ifCond .ne 14, 3) := dk_154 0 14 (dk_at dksX3_about_1 7 rfl rfl)
theorem dX3_about_34 : decode cX3_about 34 = .ok (.aload_n 0, 1) := dk_42 (dk_at dksX3_about_1 10 rfl rfl)
theorem dX3_about_35 : decode cX3_about 35 = .ok (.aload_n 0, 1) := dk_42 (dk_at dksX3_about_1 11 rfl rfl)
theorem dX3_about_36 : decode cX3_about 36 = .ok (.getfield 20, 3) := dk_180 0 20 (dk_at dksX3_about_1 12 rfl rfl)
theorem dX3_about_39 : decode cX3_about 39 = .ok (.iload_n 1, 1) := dk_27 (dk_at dksX3_about_1 15 rfl rfl)
theorem dX3_about_40 : decode cX3_about 40 = .ok (.iaload, 1) := dk_46 (dk_at dksX3_about_1 16 rfl rfl)
theorem dX3_about_41 : decode cX3_about 41 = .ok (.invokevirtual 75, 3) := dk_182 0 75 (dk_at dksX3_about_1 17 rfl rfl)
theorem dX3_about_44 : decode cX3_about 44 = .ok (.ireturn, 1) := dk_172 (dk_at dksX3_about_1 20 rfl rfl)
theorem dX3_about_45 : decode cX3_about 45 = .ok (.iload_n 2, 1) := dk_28 (dk_at dksX3_about_1 21 rfl rfl)
theorem dX3_about_46 : decode cX3_about 46 = .ok (.iconst 1, 1) := dk_4 (dk_at dksX3_about_1 22 rfl rfl)
theorem dX3_about_47 : decode cX3_about 47 = .ok (.if_icmp .ne 14, 3) := dk_160 0 14 (dk_at dksX3_about_2 0 rfl rfl)
theorem dX3_about_50 : decode cX3_about 50 = .ok (.aload_n 0, 1) := dk_42 (dk_at dksX3_about_2 3 rfl rfl)
theorem dX3_about_51 : decode cX3_about 51 = .ok (.aload_n 0, 1) := dk_42 (dk_at dksX3_about_2 4 rfl rfl)
theorem dX3_about_52 : decode cX3_about 52 = .ok (.getfield 23, 3) := dk_180 0 23 (dk_at dksX3_about_2 5 rfl rfl)
theorem dX3_about_55 : decode cX3_about 55 = .ok (.iload_n 1, 1) := dk_27 (dk_at dksX3_about_2 8 rfl rfl)
theorem dX3_about_56 : decode cX3_about 56 = .ok (.iaload, 1) := dk_46 (dk_at dksX3_about_2 9 rfl rfl)
theorem dX3_about_57 : decode cX3_about 57 = .ok (.invokevirtual 75, 3) := dk_182 0 75 (dk_at dksX3_about_2 10 rfl rfl)
theorem dX3_about_60 : decode cX3_about 60 = .ok (.ireturn, 1) := dk_172 (dk_at dksX3_about_2 13 rfl rfl)
theorem dX3_about_61 : decode cX3_about 61 = .ok (.iload_n 2, 1) := dk_28 (dk_at dksX3_about_2 14 rfl rfl)
theorem dX3_about_62 : decode cX3_about 62 = .ok (.iconst 2, 1) := dk_5 (dk_at dksX3_about_2 15 rfl rfl)
theorem dX3_about_63 : decode cX3_about 63 = .ok (.if_icmp .ne 100, 3) := dk_160 0 100 (dk_at dksX3_about_2 16 rfl rfl)
theorem dX3_about_66 : decode cX3_about 66 = .ok (.aload_n 0, 1) := dk_42 (dk_at dksX3_about_2 19 rfl rfl)
theorem dX3_about_67 : decode cX3_about 67 = .ok (.getfield 20, 3) := dk_180 0 20 (dk_at dksX3_about_2 20 rfl rfl)
theorem dX3_about_70 : decode cX3_about 70 = .ok (.iload_n 1, 1) := dk_27 (dk_at dksX3_about_2 23 rfl rfl)
theorem dX3_about_71 : decode cX3_about 71 = .ok (.iaload, 1) := dk_46 (dk_at dksX3_about_3 0 rfl rfl)
theorem dX3_about_72 : decode cX3_about 72 = .ok (.iconst 4, 1) := dk_7 (dk_at dksX3_about_3 1 rfl rfl)
theorem dX3_about_73 : decode cX3_about 73 = .ok (.if_icmp .ne 7, 3) := dk_160 0 7 (dk_at dksX3_about_3 2 rfl rfl)
theorem dX3_about_76 : decode cX3_about 76 = .ok (.iconst 0, 1) := dk_3 (dk_at dksX3_about_3 5 rfl rfl)
theorem dX3_about_77 : decode cX3_about 77 = .ok (.goto 14, 3) := dk_167 0 14 (dk_at dksX3_about_3 6 rfl rfl)
theorem dX3_about_80 : decode cX3_about 80 = .ok (.aload_n 0, 1) := dk_42 (dk_at dksX3_about_3 9 rfl rfl)
theorem dX3_about_81 : decode cX3_about 81 = .ok (.getfield 38, 3) := dk_180 0 38 (dk_at dksX3_about_3 10 rfl rfl)
theorem dX3_about_84 : decode cX3_about 84 = .ok (.aload_n 0, 1) := dk_42 (dk_at dksX3_about_3 13 rfl rfl)
theorem dX3_about_85 : decode cX3_about 85 = .ok (.getfield 32, 3) := dk_180 0 32 (dk_at dksX3_about_3 14 rfl rfl)
theorem dX3_about_88 : decode cX3_about 88 = .ok (.iload_n 1, 1) := dk_27 (dk_at dksX3_about_3 17 rfl rfl)
theorem dX3_about_89 : decode cX3_about 89 = .ok (.iaload, 1) := dk_46 (dk_at dksX3_about_3 18 rfl rfl)
theorem dX3_about_90 : decode cX3_about 90 = .ok (.iaload, 1) := dk_46 (dk_at dksX3_about_3 19 rfl rfl)
theorem dX3_about_91 : decode cX3_about 91 = .ok (.istore_n 3, 1) := dk_62 (dk_at dksX3_about_3 20 rfl rfl)
theorem dX3_about_92 : decode cX3_about 92 = .ok (.iconst 0, 1) := dk_3 (dk_at dksX3_about_3 21 rfl rfl)
theorem dX3_about_93 : decode cX3_about 93 = .ok (.istore 4, 2) := dk_54 4 (dk_at dksX3_about_3 22 rfl rfl)
theorem dX3_about_95 : decode cX3_about 95 = .ok (.aload_n 0, 1) := dk_42 (dk_at dksX3_about_4 0 rfl rfl)
theorem dX3_about_96 : decode cX3_about 96 = .ok (.getfield 20, 3) := dk_180 0 20 (dk_at dksX3_about_4 1 rfl rfl)
theorem dX3_about_99 : decode cX3_about 99 = .ok (.iload_n 1, 1) := dk_27 (dk_at dksX3_about_4 4 rfl rfl)
theorem dX3_about_100 : decode cX3_about 100 = .ok (.iaload, 1) := dk_46 (dk_at dksX3_about_4 5 rfl rfl)
theorem dX3_about_101 : decode cX3_about 101 = .ok (.iconst 4, 1) := dk_7 (dk_at dksX3_about_4 6 rfl rfl)
theorem dX3_about_102 : decode cX3_about 102 = .ok (.if_icmp .ne 55, 3) := dk_160 0 55 (dk_at dksX3_about_4 7 rfl rfl)
theorem dX3_about_105 : decode cX3_about 105 = .ok (.iload 4, 2) := dk_21 4 (dk_at dksX3_about_4 10 rfl rfl)
theorem dX3_about_107 : decode cX3_about 107 = .ok (.aload_n 0, 1) := dk_42 (dk_at dksX3_about_4 12 rfl rfl)
theorem dX3_about_108 : decode cX3_about 108 = .ok (.iload_n 1, 1) := dk_27 (dk_at dksX3_about_4 13 rfl rfl)
theorem dX3_about_109 : decode cX3_about 109 = .ok (.invokevirtual 155, 3) := dk_182 0 155 (dk_at dksX3_about_4 14 rfl rfl)
theorem dX3_about_112 : decode cX3_about 112 = .ok (.if_icmp .ge 45, 3) := dk_162 0 45 (dk_at dksX3_about_4 17 rfl rfl)
theorem dX3_about_115 : decode cX3_about 115 = .ok (.aload_n 0, 1) := dk_42 (dk_at dksX3_about_4 20 rfl rfl)
theorem dX3_about_116 : decode cX3_about 116 = .ok (.getfield 50, 3) := dk_180 0 50 (dk_at dksX3_about_4 21 rfl rfl)
theorem dX3_about_119 : decode cX3_about 119 = .ok (.aload_n 0, 1) := dk_42 (dk_at dksX3_about_5 0 rfl rfl)
theorem dX3_about_120 : decode cX3_about 120 = .ok (.getfield 32, 3) := dk_180 0 32 (dk_at dksX3_about_5 1 rfl rfl)
theorem dX3_about_123 : decode cX3_about 123 = .ok (.iload_n 1, 1) := dk_27 (dk_at dksX3_about_5 4 rfl rfl)
theorem dX3_about_124 : decode cX3_about 124 = .ok (.iaload, 1) := dk_46 (dk_at dksX3_about_5 5 rfl rfl)
theorem dX3_about_125 : decode cX3_about 125 = .ok (.iload 4, 2) := dk_21 4 (dk_at dksX3_about_5 6 rfl rfl)
theorem dX3_about_127 : decode cX3_about 127 = .ok (.iadd, 1) := dk_96 (dk_at dksX3_about_5 8 rfl rfl)
theorem dX3_about_128 : decode cX3_about 128 = .ok (.iaload, 1) := dk_46 (dk_at dksX3_about_5 9 rfl rfl)
theorem dX3_about_129 : decode cX3_about 129 = .ok (.istore 5, 2) := dk_54 5 (dk_at dksX3_about_5 10 rfl rfl)
theorem dX3_about_131 : decode cX3_about 131 = .ok (.iload_n 3, 1) := dk_29 (dk_at dksX3_about_5 12 rfl rfl)
theorem dX3_about_132 : decode cX3_about 132 = .ok (.iload 5, 2) := dk_21 5 (dk_at dksX3_about_5 13 rfl rfl)
theorem dX3_about_134 : decode cX3_about 134 = .ok (.iconst (-1), 1) := dk_2 (dk_at dksX3_about_5 15 rfl rfl)
theorem dX3_about_135 : decode cX3_about 135 = .ok (.if_icmp .ne 7, 3) := dk_160 0 7 (dk_at dksX3_about_5 16 rfl rfl)
theorem dX3_about_138 : decode cX3_about 138 = .ok (.iconst 0, 1) := dk_3 (dk_at dksX3_about_5 19 rfl rfl)
theorem dX3_about_139 : decode cX3_about 139 = .ok (.goto 10, 3) := dk_167 0 10 (dk_at dksX3_about_5 20 rfl rfl)
theorem dX3_about_142 : decode cX3_about 142 = .ok (.aload_n 0, 1) := dk_42 (dk_at dksX3_about_5 23 rfl rfl)
theorem dX3_about_143 : decode cX3_about 143 = .ok (.getfield 38, 3) := dk_180 0 38 (dk_at dksX3_about_6 0 rfl rfl)
theorem dX3_about_146 : decode cX3_about 146 = .ok (.iload 5, 2) := dk_21 5 (dk_at dksX3_about_6 3 rfl rfl)
theorem dX3_about_148 : decode cX3_about 148 = .ok (.iaload, 1) := dk_46 (dk_at dksX3_about_6 5 rfl rfl)
theorem dX3_about_149 : decode cX3_about 149 = .ok (.iadd, 1) := dk_96 (dk_at dksX3_about_6 6 rfl rfl)
theorem dX3_about_150 : decode cX3_about 150 = .ok (.istore_n 3, 1) := dk_62 (dk_at dksX3_about_6 7 rfl rfl)
theorem dX3_about_151 : decode cX3_about 151 = .ok (.iinc 4 1, 3) := dk_132 4 1 (dk_at dksX3_about_6 8 rfl rfl)
theorem dX3_about_154 : decode cX3_about 154 = .ok (.goto (-59), 3) := dk_167 255 197 (dk_at dksX3_about_6 11 rfl rfl)
theorem dX3_about_157 : decode cX3_about 157 = .ok (.aload_n 0, 1) := dk_42 (dk_at dksX3_about_6 14 rfl rfl)
theorem dX3_about_158 : decode cX3_about 158 = .ok (.iload_n 3, 1) := dk_29 (dk_at dksX3_about_6 15 rfl rfl)
theorem dX3_about_159 : decode cX3_about 159 = .ok (.invokevirtual 75, 3) := dk_182 0 75 (dk_at dksX3_about_6 16 rfl rfl)
theorem dX3_about_162 : decode cX3_about 162 = .ok (.ireturn, 1) := dk_172 (dk_at dksX3_about_6 19 rfl rfl)
theorem dX3_about_163 : decode cX3_about 163 = .ok (.iload_n 2, 1) := dk_28 (dk_at dksX3_about_6 20 rfl rfl)
theorem dX3_about_164 : decode cX3_about 164 = .ok (.iconst 3, 1) := dk_6 (dk_at dksX3_about_6 21 rfl rfl)
theorem dX3_about_165 : decode cX3_about 165 = .ok (.isub, 1) := dk_100 (dk_at dksX3_about_6 22 rfl rfl)
theorem dX3_about_166 : decode cX3_about 166 = .ok (.iconst 2, 1) := dk_5 (dk_at dksX3_about_6 23 rfl rfl)
theorem dX3_about_167 : decode cX3_about 167 = .ok (.idiv, 1) := dk_108 (dk_at dksX3_about_7 0 rfl rfl)
theorem dX3_about_168 : decode cX3_about 168 = .ok (.istore_n 3, 1) := dk_62 (dk_at dksX3_about_7 1 rfl rfl)
theorem dX3_about_169 : decode cX3_about 169 = .ok (.iload_n 3, 1) := dk_29 (dk_at dksX3_about_7 2 rfl rfl)
theorem dX3_about_170 : decode cX3_about 170 = .ok (.aload_n 0, 1) := dk_42 (dk_at dksX3_about_7 3 rfl rfl)
theorem dX3_about_171 : decode cX3_about 171 = .ok (.getfield 23, 3) := dk_180 0 23 (dk_at dksX3_about_7 4 rfl rfl)
theorem dX3_about_174 : decode cX3_about 174 = .ok (.iload_n 1, 1) := dk_27 (dk_at dksX3_about_7 7 rfl rfl)
theorem dX3_about_175 : decode cX3_about 175 = .ok (.iaload, 1) := dk_46 (dk_at dksX3_about_7 8 rfl rfl)
theorem dX3_about_176 : decode cX3_about 176 = .ok (.if_icmp .lt 10, 3) := dk_161 0 10 (dk_at dksX3_about_7 9 rfl rfl)
theorem dX3_about_179 : decode cX3_about 179 = .ok (.aload_n 0, 1) := dk_42 (dk_at dksX3_about_7 12 rfl rfl)
theorem dX3_about_180 : decode cX3_about 180 = .ok (.bipush 9, 2) := dk_16 9 (dk_at dksX3_about_7 13 rfl rfl)
theorem dX3_about_182 : decode cX3_about 182 = .ok (.invokevirtual 68, 3) := dk_182 0 68 (dk_at dksX3_about_7 15 rfl rfl)
theorem dX3_about_185 : decode cX3_about 185 = .ok (.ireturn, 1) := dk_172 (dk_at dksX3_about_7 18 rfl rfl)
theorem dX3_about_186 : decode cX3_about 186 = .ok (.aload_n 0, 1) := dk_42 (dk_at dksX3_about_7 19 rfl rfl)
theorem dX3_about_187 : decode cX3_about 187 = .ok (.iload_n 2, 1) := dk_28 (dk_at dksX3_about_7 20 rfl rfl)
theorem dX3_about_188 : decode cX3_about 188 = .ok (.iconst 2, 1) := dk_5 (dk_at dksX3_about_7 21 rfl rfl)
theorem dX3_about_189 : decode cX3_about 189 = .ok (.irem, 1) := dk_112 (dk_at dksX3_about_7 22 rfl rfl)
theorem dX3_about_190 : decode cX3_about 190 = .ok (.iconst 1, 1) := dk_4 (dk_at dksX3_about_7 23 rfl rfl)
theorem dX3_about_191 : decode cX3_about 191 = .ok (.if_icmp .ne 16, 3) := dk_160 0 16 (dk_at dksX3_about_8 0 rfl rfl)
theorem dX3_about_194 : decode cX3_about 194 = .ok (.aload_n 0, 1) := dk_42 (dk_at dksX3_about_8 3 rfl rfl)
theorem dX3_about_195 : decode cX3_about 195 = .ok (.getfield 26, 3) := dk_180 0 26 (dk_at dksX3_about_8 4 rfl rfl)
theorem dX3_about_198 : decode cX3_about 198 = .ok (.iconst 3, 1) := dk_6 (dk_at dksX3_about_8 7 rfl rfl)
theorem dX3_about_199 : decode cX3_about 199 = .ok (.iload_n 1, 1) := dk_27 (dk_at dksX3_about_8 8 rfl rfl)
theorem dX3_about_200 : decode cX3_about 200 = .ok (.imul, 1) := dk_104 (dk_at dksX3_about_8 9 rfl rfl)
theorem dX3_about_201 : decode cX3_about 201 = .ok (.iload_n 3, 1) := dk_29 (dk_at dksX3_about_8 10 rfl rfl)
theorem dX3_about_202 : decode cX3_about 202 = .ok (.iadd, 1) := dk_96 (dk_at dksX3_about_8 11 rfl rfl)
theorem dX3_about_203 : decode cX3_about 203 = .ok (.iaload, 1) := dk_46 (dk_at dksX3_about_8 12 rfl rfl)
theorem dX3_about_204 : decode cX3_about 204 = .ok (.goto 13, 3) := dk_167 0 13 (dk_at dksX3_about_8 13 rfl rfl)
theorem dX3_about_207 : decode cX3_about 207 = .ok (.aload_n 0, 1) := dk_42 (dk_at dksX3_about_8 16 rfl rfl)
theorem dX3_about_208 : decode cX3_about 208 = .ok (.getfield 29, 3) := dk_180 0 29 (dk_at dksX3_about_8 17 rfl rfl)
theorem dX3_about_211 : decode cX3_about 211 = .ok (.iconst 3, 1) := dk_6 (dk_at dksX3_about_8 20 rfl rfl)
theorem dX3_about_212 : decode cX3_about 212 = .ok (.iload_n 1, 1) := dk_27 (dk_at dksX3_about_8 21 rfl rfl)
theorem dX3_about_213 : decode cX3_about 213 = .ok (.imul, 1) := dk_104 (dk_at dksX3_about_8 22 rfl rfl)
theorem dX3_about_214 : decode cX3_about 214 = .ok (.iload_n 3, 1) := dk_29 (dk_at dksX3_about_8 23 rfl rfl)
theorem dX3_about_215 : decode cX3_about 215 = .ok (.iadd, 1) := dk_96 (dk_at dksX3_about_9 0 rfl rfl)
theorem dX3_about_216 : decode cX3_about 216 = .ok (.iaload, 1) := dk_46 (dk_at dksX3_about_9 1 rfl rfl)
theorem dX3_about_217 : decode cX3_about 217 = .ok (.invokevirtual 75, 3) := dk_182 0 75 (dk_at dksX3_about_9 2 rfl rfl)
theorem dX3_about_220 : decode cX3_about 220 = .ok (.ireturn, 1) := dk_172 (dk_at dksX3_about_9 5 rfl rfl)
abbrev cX3_same : ByteArray := prog_6_method_49_code
def yX3_same : MethodName := ⟨RX3, "same", "(II)I"⟩
def dkwX3_same_7 : List UInt8 := [167, 255, 202, 42, 29, 153, 0, 7, 4, 167, 0, 4, 3, 182, 0, 75, 172]
abbrev dktX3_same_7 : List UInt8 := dkwX3_same_7 ++ []
def dkwX3_same_6 : List UInt8 := [42, 180, 0, 32, 28, 46, 21, 4, 96, 46, 160, 0, 7, 4, 167, 0, 4, 3, 62, 132, 4, 1]
abbrev dktX3_same_6 : List UInt8 := dkwX3_same_6 ++ dktX3_same_7
def dkwX3_same_5 : List UInt8 := [182, 0, 155, 162, 0, 46, 42, 180, 0, 50, 42, 180, 0, 32, 27, 46, 21, 4, 96, 46, 42, 180, 0, 50]
abbrev dktX3_same_5 : List UInt8 := dkwX3_same_5 ++ dktX3_same_6
def dkwX3_same_4 : List UInt8 := [182, 0, 155, 160, 0, 7, 4, 167, 0, 4, 3, 62, 3, 54, 4, 29, 153, 0, 56, 21, 4, 42, 27]
abbrev dktX3_same_4 : List UInt8 := dkwX3_same_4 ++ dktX3_same_5
def dkwX3_same_3 : List UInt8 := [180, 0, 32, 28, 46, 160, 0, 7, 4, 167, 0, 4, 3, 182, 0, 75, 172, 42, 27, 182, 0, 155, 42, 28]
abbrev dktX3_same_3 : List UInt8 := dkwX3_same_3 ++ dktX3_same_4
def dkwX3_same_2 : List UInt8 := [27, 46, 7, 159, 0, 32, 42, 180, 0, 20, 28, 46, 7, 159, 0, 22, 42, 180, 0, 32, 27, 46, 42]
abbrev dktX3_same_2 : List UInt8 := dkwX3_same_2 ++ dktX3_same_3
def dkwX3_same_1 : List UInt8 := [180, 0, 20, 27, 46, 7, 160, 0, 13, 42, 180, 0, 20, 28, 46, 7, 159, 0, 48, 42, 42, 180, 0, 20]
abbrev dktX3_same_1 : List UInt8 := dkwX3_same_1 ++ dktX3_same_2
def dkwX3_same_0 : List UInt8 := [42, 27, 182, 0, 131, 153, 0, 11, 42, 28, 182, 0, 131, 154, 0, 10, 42, 16, 7, 182, 0, 68, 172, 42]
abbrev dktX3_same_0 : List UInt8 := dkwX3_same_0 ++ dktX3_same_1
theorem dksX3_same_0 : cX3_same.data.toList.drop 0 = dktX3_same_0 := by decide +kernel
theorem dksX3_same_1 : cX3_same.data.toList.drop 24 = dktX3_same_1 := dk_seg dksX3_same_0 24 rfl rfl
theorem dksX3_same_2 : cX3_same.data.toList.drop 48 = dktX3_same_2 := dk_seg dksX3_same_1 24 rfl rfl
theorem dksX3_same_3 : cX3_same.data.toList.drop 71 = dktX3_same_3 := dk_seg dksX3_same_2 23 rfl rfl
theorem dksX3_same_4 : cX3_same.data.toList.drop 95 = dktX3_same_4 := dk_seg dksX3_same_3 24 rfl rfl
theorem dksX3_same_5 : cX3_same.data.toList.drop 118 = dktX3_same_5 := dk_seg dksX3_same_4 23 rfl rfl
theorem dksX3_same_6 : cX3_same.data.toList.drop 142 = dktX3_same_6 := dk_seg dksX3_same_5 24 rfl rfl
theorem dksX3_same_7 : cX3_same.data.toList.drop 164 = dktX3_same_7 := dk_seg dksX3_same_6 22 rfl rfl
theorem dX3_same_0 : decode cX3_same 0 = .ok (.aload_n 0, 1) := dk_42 (dk_at dksX3_same_0 0 rfl rfl)
theorem dX3_same_1 : decode cX3_same 1 = .ok (.iload_n 1, 1) := dk_27 (dk_at dksX3_same_0 1 rfl rfl)
theorem dX3_same_2 : decode cX3_same 2 = .ok (.invokevirtual 131, 3) := dk_182 0 131 (dk_at dksX3_same_0 2 rfl rfl)
theorem dX3_same_5 : decode cX3_same 5 = .ok (.ifCond .eq 11, 3) := dk_153 0 11 (dk_at dksX3_same_0 5 rfl rfl)
theorem dX3_same_8 : decode cX3_same 8 = .ok (.aload_n 0, 1) := dk_42 (dk_at dksX3_same_0 8 rfl rfl)
theorem dX3_same_9 : decode cX3_same 9 = .ok (.iload_n 2, 1) := dk_28 (dk_at dksX3_same_0 9 rfl rfl)
theorem dX3_same_10 : decode cX3_same 10 = .ok (.invokevirtual 131, 3) := dk_182 0 131 (dk_at dksX3_same_0 10 rfl rfl)
theorem dX3_same_13 : decode cX3_same 13 = .ok (.ifCond .ne 10, 3) := dk_154 0 10 (dk_at dksX3_same_0 13 rfl rfl)
theorem dX3_same_16 : decode cX3_same 16 = .ok (.aload_n 0, 1) := dk_42 (dk_at dksX3_same_0 16 rfl rfl)
theorem dX3_same_17 : decode cX3_same 17 = .ok (.bipush 7, 2) := dk_16 7 (dk_at dksX3_same_0 17 rfl rfl)
theorem dX3_same_19 : decode cX3_same 19 = .ok (.invokevirtual 68, 3) := dk_182 0 68 (dk_at dksX3_same_0 19 rfl rfl)
theorem dX3_same_22 : decode cX3_same 22 = .ok (.ireturn, 1) := dk_172 (dk_at dksX3_same_0 22 rfl rfl)
theorem dX3_same_23 : decode cX3_same 23 = .ok (.aload_n 0, 1) := dk_42 (dk_at dksX3_same_0 23 rfl rfl)
theorem dX3_same_24 : decode cX3_same 24 = .ok (.getfield 20, 3) := dk_180 0 20 (dk_at dksX3_same_1 0 rfl rfl)
theorem dX3_same_27 : decode cX3_same 27 = .ok (.iload_n 1, 1) := dk_27 (dk_at dksX3_same_1 3 rfl rfl)
theorem dX3_same_28 : decode cX3_same 28 = .ok (.iaload, 1) := dk_46 (dk_at dksX3_same_1 4 rfl rfl)
theorem dX3_same_29 : decode cX3_same 29 = .ok (.iconst 4, 1) := dk_7 (dk_at dksX3_same_1 5 rfl rfl)
theorem dX3_same_30 : decode cX3_same 30 = .ok (.if_icmp .ne 13, 3) := dk_160 0 13 (dk_at dksX3_same_1 6 rfl rfl)
theorem dX3_same_33 : decode cX3_same 33 = .ok (.aload_n 0, 1) := dk_42 (dk_at dksX3_same_1 9 rfl rfl)
theorem dX3_same_34 : decode cX3_same 34 = .ok (.getfield 20, 3) := dk_180 0 20 (dk_at dksX3_same_1 10 rfl rfl)
theorem dX3_same_37 : decode cX3_same 37 = .ok (.iload_n 2, 1) := dk_28 (dk_at dksX3_same_1 13 rfl rfl)
theorem dX3_same_38 : decode cX3_same 38 = .ok (.iaload, 1) := dk_46 (dk_at dksX3_same_1 14 rfl rfl)
theorem dX3_same_39 : decode cX3_same 39 = .ok (.iconst 4, 1) := dk_7 (dk_at dksX3_same_1 15 rfl rfl)
theorem dX3_same_40 : decode cX3_same 40 = .ok (.if_icmp .eq 48, 3) := dk_159 0 48 (dk_at dksX3_same_1 16 rfl rfl)
theorem dX3_same_43 : decode cX3_same 43 = .ok (.aload_n 0, 1) := dk_42 (dk_at dksX3_same_1 19 rfl rfl)
theorem dX3_same_44 : decode cX3_same 44 = .ok (.aload_n 0, 1) := dk_42 (dk_at dksX3_same_1 20 rfl rfl)
theorem dX3_same_45 : decode cX3_same 45 = .ok (.getfield 20, 3) := dk_180 0 20 (dk_at dksX3_same_1 21 rfl rfl)
theorem dX3_same_48 : decode cX3_same 48 = .ok (.iload_n 1, 1) := dk_27 (dk_at dksX3_same_2 0 rfl rfl)
theorem dX3_same_49 : decode cX3_same 49 = .ok (.iaload, 1) := dk_46 (dk_at dksX3_same_2 1 rfl rfl)
theorem dX3_same_50 : decode cX3_same 50 = .ok (.iconst 4, 1) := dk_7 (dk_at dksX3_same_2 2 rfl rfl)
theorem dX3_same_51 : decode cX3_same 51 = .ok (.if_icmp .eq 32, 3) := dk_159 0 32 (dk_at dksX3_same_2 3 rfl rfl)
theorem dX3_same_54 : decode cX3_same 54 = .ok (.aload_n 0, 1) := dk_42 (dk_at dksX3_same_2 6 rfl rfl)
theorem dX3_same_55 : decode cX3_same 55 = .ok (.getfield 20, 3) := dk_180 0 20 (dk_at dksX3_same_2 7 rfl rfl)
theorem dX3_same_58 : decode cX3_same 58 = .ok (.iload_n 2, 1) := dk_28 (dk_at dksX3_same_2 10 rfl rfl)
theorem dX3_same_59 : decode cX3_same 59 = .ok (.iaload, 1) := dk_46 (dk_at dksX3_same_2 11 rfl rfl)
theorem dX3_same_60 : decode cX3_same 60 = .ok (.iconst 4, 1) := dk_7 (dk_at dksX3_same_2 12 rfl rfl)
theorem dX3_same_61 : decode cX3_same 61 = .ok (.if_icmp .eq 22, 3) := dk_159 0 22 (dk_at dksX3_same_2 13 rfl rfl)
theorem dX3_same_64 : decode cX3_same 64 = .ok (.aload_n 0, 1) := dk_42 (dk_at dksX3_same_2 16 rfl rfl)
theorem dX3_same_65 : decode cX3_same 65 = .ok (.getfield 32, 3) := dk_180 0 32 (dk_at dksX3_same_2 17 rfl rfl)
theorem dX3_same_68 : decode cX3_same 68 = .ok (.iload_n 1, 1) := dk_27 (dk_at dksX3_same_2 20 rfl rfl)
theorem dX3_same_69 : decode cX3_same 69 = .ok (.iaload, 1) := dk_46 (dk_at dksX3_same_2 21 rfl rfl)
theorem dX3_same_70 : decode cX3_same 70 = .ok (.aload_n 0, 1) := dk_42 (dk_at dksX3_same_2 22 rfl rfl)
theorem dX3_same_71 : decode cX3_same 71 = .ok (.getfield 32, 3) := dk_180 0 32 (dk_at dksX3_same_3 0 rfl rfl)
theorem dX3_same_74 : decode cX3_same 74 = .ok (.iload_n 2, 1) := dk_28 (dk_at dksX3_same_3 3 rfl rfl)
theorem dX3_same_75 : decode cX3_same 75 = .ok (.iaload, 1) := dk_46 (dk_at dksX3_same_3 4 rfl rfl)
theorem dX3_same_76 : decode cX3_same 76 = .ok (.if_icmp .ne 7, 3) := dk_160 0 7 (dk_at dksX3_same_3 5 rfl rfl)
theorem dX3_same_79 : decode cX3_same 79 = .ok (.iconst 1, 1) := dk_4 (dk_at dksX3_same_3 8 rfl rfl)
theorem dX3_same_80 : decode cX3_same 80 = .ok (.goto 4, 3) := dk_167 0 4 (dk_at dksX3_same_3 9 rfl rfl)
theorem dX3_same_83 : decode cX3_same 83 = .ok (.iconst 0, 1) := dk_3 (dk_at dksX3_same_3 12 rfl rfl)
theorem dX3_same_84 : decode cX3_same 84 = .ok (.invokevirtual 75, 3) := dk_182 0 75 (dk_at dksX3_same_3 13 rfl rfl)
theorem dX3_same_87 : decode cX3_same 87 = .ok (.ireturn, 1) := dk_172 (dk_at dksX3_same_3 16 rfl rfl)
theorem dX3_same_88 : decode cX3_same 88 = .ok (.aload_n 0, 1) := dk_42 (dk_at dksX3_same_3 17 rfl rfl)
theorem dX3_same_89 : decode cX3_same 89 = .ok (.iload_n 1, 1) := dk_27 (dk_at dksX3_same_3 18 rfl rfl)
theorem dX3_same_90 : decode cX3_same 90 = .ok (.invokevirtual 155, 3) := dk_182 0 155 (dk_at dksX3_same_3 19 rfl rfl)
theorem dX3_same_93 : decode cX3_same 93 = .ok (.aload_n 0, 1) := dk_42 (dk_at dksX3_same_3 22 rfl rfl)
theorem dX3_same_94 : decode cX3_same 94 = .ok (.iload_n 2, 1) := dk_28 (dk_at dksX3_same_3 23 rfl rfl)
theorem dX3_same_95 : decode cX3_same 95 = .ok (.invokevirtual 155, 3) := dk_182 0 155 (dk_at dksX3_same_4 0 rfl rfl)
theorem dX3_same_98 : decode cX3_same 98 = .ok (.if_icmp .ne 7, 3) := dk_160 0 7 (dk_at dksX3_same_4 3 rfl rfl)
theorem dX3_same_101 : decode cX3_same 101 = .ok (.iconst 1, 1) := dk_4 (dk_at dksX3_same_4 6 rfl rfl)
theorem dX3_same_102 : decode cX3_same 102 = .ok (.goto 4, 3) := dk_167 0 4 (dk_at dksX3_same_4 7 rfl rfl)
theorem dX3_same_105 : decode cX3_same 105 = .ok (.iconst 0, 1) := dk_3 (dk_at dksX3_same_4 10 rfl rfl)
theorem dX3_same_106 : decode cX3_same 106 = .ok (.istore_n 3, 1) := dk_62 (dk_at dksX3_same_4 11 rfl rfl)
theorem dX3_same_107 : decode cX3_same 107 = .ok (.iconst 0, 1) := dk_3 (dk_at dksX3_same_4 12 rfl rfl)
theorem dX3_same_108 : decode cX3_same 108 = .ok (.istore 4, 2) := dk_54 4 (dk_at dksX3_same_4 13 rfl rfl)
theorem dX3_same_110 : decode cX3_same 110 = .ok (.iload_n 3, 1) := dk_29 (dk_at dksX3_same_4 15 rfl rfl)
theorem dX3_same_111 : decode cX3_same 111 = .ok (.ifCond .eq 56, 3) := dk_153 0 56 (dk_at dksX3_same_4 16 rfl rfl)
theorem dX3_same_114 : decode cX3_same 114 = .ok (.iload 4, 2) := dk_21 4 (dk_at dksX3_same_4 19 rfl rfl)
theorem dX3_same_116 : decode cX3_same 116 = .ok (.aload_n 0, 1) := dk_42 (dk_at dksX3_same_4 21 rfl rfl)
theorem dX3_same_117 : decode cX3_same 117 = .ok (.iload_n 1, 1) := dk_27 (dk_at dksX3_same_4 22 rfl rfl)
theorem dX3_same_118 : decode cX3_same 118 = .ok (.invokevirtual 155, 3) := dk_182 0 155 (dk_at dksX3_same_5 0 rfl rfl)
theorem dX3_same_121 : decode cX3_same 121 = .ok (.if_icmp .ge 46, 3) := dk_162 0 46 (dk_at dksX3_same_5 3 rfl rfl)
theorem dX3_same_124 : decode cX3_same 124 = .ok (.aload_n 0, 1) := dk_42 (dk_at dksX3_same_5 6 rfl rfl)
theorem dX3_same_125 : decode cX3_same 125 = .ok (.getfield 50, 3) := dk_180 0 50 (dk_at dksX3_same_5 7 rfl rfl)
theorem dX3_same_128 : decode cX3_same 128 = .ok (.aload_n 0, 1) := dk_42 (dk_at dksX3_same_5 10 rfl rfl)
theorem dX3_same_129 : decode cX3_same 129 = .ok (.getfield 32, 3) := dk_180 0 32 (dk_at dksX3_same_5 11 rfl rfl)
theorem dX3_same_132 : decode cX3_same 132 = .ok (.iload_n 1, 1) := dk_27 (dk_at dksX3_same_5 14 rfl rfl)
theorem dX3_same_133 : decode cX3_same 133 = .ok (.iaload, 1) := dk_46 (dk_at dksX3_same_5 15 rfl rfl)
theorem dX3_same_134 : decode cX3_same 134 = .ok (.iload 4, 2) := dk_21 4 (dk_at dksX3_same_5 16 rfl rfl)
theorem dX3_same_136 : decode cX3_same 136 = .ok (.iadd, 1) := dk_96 (dk_at dksX3_same_5 18 rfl rfl)
theorem dX3_same_137 : decode cX3_same 137 = .ok (.iaload, 1) := dk_46 (dk_at dksX3_same_5 19 rfl rfl)
theorem dX3_same_138 : decode cX3_same 138 = .ok (.aload_n 0, 1) := dk_42 (dk_at dksX3_same_5 20 rfl rfl)
theorem dX3_same_139 : decode cX3_same 139 = .ok (.getfield 50, 3) := dk_180 0 50 (dk_at dksX3_same_5 21 rfl rfl)
theorem dX3_same_142 : decode cX3_same 142 = .ok (.aload_n 0, 1) := dk_42 (dk_at dksX3_same_6 0 rfl rfl)
theorem dX3_same_143 : decode cX3_same 143 = .ok (.getfield 32, 3) := dk_180 0 32 (dk_at dksX3_same_6 1 rfl rfl)
theorem dX3_same_146 : decode cX3_same 146 = .ok (.iload_n 2, 1) := dk_28 (dk_at dksX3_same_6 4 rfl rfl)
theorem dX3_same_147 : decode cX3_same 147 = .ok (.iaload, 1) := dk_46 (dk_at dksX3_same_6 5 rfl rfl)
theorem dX3_same_148 : decode cX3_same 148 = .ok (.iload 4, 2) := dk_21 4 (dk_at dksX3_same_6 6 rfl rfl)
theorem dX3_same_150 : decode cX3_same 150 = .ok (.iadd, 1) := dk_96 (dk_at dksX3_same_6 8 rfl rfl)
theorem dX3_same_151 : decode cX3_same 151 = .ok (.iaload, 1) := dk_46 (dk_at dksX3_same_6 9 rfl rfl)
theorem dX3_same_152 : decode cX3_same 152 = .ok (.if_icmp .ne 7, 3) := dk_160 0 7 (dk_at dksX3_same_6 10 rfl rfl)
theorem dX3_same_155 : decode cX3_same 155 = .ok (.iconst 1, 1) := dk_4 (dk_at dksX3_same_6 13 rfl rfl)
theorem dX3_same_156 : decode cX3_same 156 = .ok (.goto 4, 3) := dk_167 0 4 (dk_at dksX3_same_6 14 rfl rfl)
theorem dX3_same_159 : decode cX3_same 159 = .ok (.iconst 0, 1) := dk_3 (dk_at dksX3_same_6 17 rfl rfl)
theorem dX3_same_160 : decode cX3_same 160 = .ok (.istore_n 3, 1) := dk_62 (dk_at dksX3_same_6 18 rfl rfl)
theorem dX3_same_161 : decode cX3_same 161 = .ok (.iinc 4 1, 3) := dk_132 4 1 (dk_at dksX3_same_6 19 rfl rfl)
theorem dX3_same_164 : decode cX3_same 164 = .ok (.goto (-54), 3) := dk_167 255 202 (dk_at dksX3_same_7 0 rfl rfl)
theorem dX3_same_167 : decode cX3_same 167 = .ok (.aload_n 0, 1) := dk_42 (dk_at dksX3_same_7 3 rfl rfl)
theorem dX3_same_168 : decode cX3_same 168 = .ok (.iload_n 3, 1) := dk_29 (dk_at dksX3_same_7 4 rfl rfl)
theorem dX3_same_169 : decode cX3_same 169 = .ok (.ifCond .eq 7, 3) := dk_153 0 7 (dk_at dksX3_same_7 5 rfl rfl)
theorem dX3_same_172 : decode cX3_same 172 = .ok (.iconst 1, 1) := dk_4 (dk_at dksX3_same_7 8 rfl rfl)
theorem dX3_same_173 : decode cX3_same 173 = .ok (.goto 4, 3) := dk_167 0 4 (dk_at dksX3_same_7 9 rfl rfl)
theorem dX3_same_176 : decode cX3_same 176 = .ok (.iconst 0, 1) := dk_3 (dk_at dksX3_same_7 12 rfl rfl)
theorem dX3_same_177 : decode cX3_same 177 = .ok (.invokevirtual 75, 3) := dk_182 0 75 (dk_at dksX3_same_7 13 rfl rfl)
theorem dX3_same_180 : decode cX3_same 180 = .ok (.ireturn, 1) := dk_172 (dk_at dksX3_same_7 16 rfl rfl)
abbrev cX3_compare : ByteArray := prog_6_method_50_code
def yX3_compare : MethodName := ⟨RX3, "compare", "(II)I"⟩
def dkwX3_compare_8 : List UInt8 := [167, 0, 4, 3, 182, 0, 75, 172]
abbrev dktX3_compare_8 : List UInt8 := dkwX3_compare_8 ++ []
def dkwX3_compare_7 : List UInt8 := [132, 5, 1, 167, 255, 172, 42, 29, 21, 4, 162, 0, 7, 2, 167, 0, 14, 29, 21, 4, 164, 0, 7, 4]
abbrev dktX3_compare_7 : List UInt8 := dkwX3_compare_7 ++ dktX3_compare_8
def dkwX3_compare_6 : List UInt8 := [148, 153, 0, 21, 42, 22, 6, 22, 8, 148, 156, 0, 7, 2, 167, 0, 4, 4, 182, 0, 75, 172]
abbrev dktX3_compare_6 : List UInt8 := dkwX3_compare_6 ++ dktX3_compare_7
def dkwX3_compare_5 : List UInt8 := [180, 0, 42, 42, 180, 0, 35, 42, 180, 0, 32, 28, 46, 46, 21, 5, 96, 47, 55, 8, 22, 6, 22, 8]
abbrev dktX3_compare_5 : List UInt8 := dkwX3_compare_5 ++ dktX3_compare_6
def dkwX3_compare_4 : List UInt8 := [42, 180, 0, 42, 42, 180, 0, 35, 42, 180, 0, 32, 27, 46, 46, 21, 5, 96, 47, 55, 6, 42]
abbrev dktX3_compare_4 : List UInt8 := dkwX3_compare_4 ++ dktX3_compare_5
def dkwX3_compare_3 : List UInt8 := [180, 0, 32, 28, 46, 46, 54, 4, 3, 54, 5, 21, 5, 29, 162, 0, 84, 21, 5, 21, 4, 162, 0, 77]
abbrev dktX3_compare_3 : List UInt8 := dkwX3_compare_3 ++ dktX3_compare_4
def dkwX3_compare_2 : List UInt8 := [42, 5, 182, 0, 68, 172, 42, 180, 0, 38, 42, 180, 0, 32, 27, 46, 46, 62, 42, 180, 0, 38, 42]
abbrev dktX3_compare_2 : List UInt8 := dkwX3_compare_2 ++ dktX3_compare_3
def dkwX3_compare_1 : List UInt8 := [180, 0, 20, 27, 46, 42, 180, 0, 20, 28, 46, 160, 0, 13, 42, 180, 0, 20, 27, 46, 6, 161, 0, 9]
abbrev dktX3_compare_1 : List UInt8 := dkwX3_compare_1 ++ dktX3_compare_2
def dkwX3_compare_0 : List UInt8 := [42, 27, 182, 0, 131, 153, 0, 11, 42, 28, 182, 0, 131, 154, 0, 10, 42, 16, 7, 182, 0, 68, 172, 42]
abbrev dktX3_compare_0 : List UInt8 := dkwX3_compare_0 ++ dktX3_compare_1
theorem dksX3_compare_0 : cX3_compare.data.toList.drop 0 = dktX3_compare_0 := by decide +kernel
theorem dksX3_compare_1 : cX3_compare.data.toList.drop 24 = dktX3_compare_1 := dk_seg dksX3_compare_0 24 rfl rfl
theorem dksX3_compare_2 : cX3_compare.data.toList.drop 48 = dktX3_compare_2 := dk_seg dksX3_compare_1 24 rfl rfl
theorem dksX3_compare_3 : cX3_compare.data.toList.drop 71 = dktX3_compare_3 := dk_seg dksX3_compare_2 23 rfl rfl
theorem dksX3_compare_4 : cX3_compare.data.toList.drop 95 = dktX3_compare_4 := dk_seg dksX3_compare_3 24 rfl rfl
theorem dksX3_compare_5 : cX3_compare.data.toList.drop 117 = dktX3_compare_5 := dk_seg dksX3_compare_4 22 rfl rfl
theorem dksX3_compare_6 : cX3_compare.data.toList.drop 141 = dktX3_compare_6 := dk_seg dksX3_compare_5 24 rfl rfl
theorem dksX3_compare_7 : cX3_compare.data.toList.drop 163 = dktX3_compare_7 := dk_seg dksX3_compare_6 22 rfl rfl
theorem dksX3_compare_8 : cX3_compare.data.toList.drop 187 = dktX3_compare_8 := dk_seg dksX3_compare_7 24 rfl rfl
theorem dX3_compare_0 : decode cX3_compare 0 = .ok (.aload_n 0, 1) := dk_42 (dk_at dksX3_compare_0 0 rfl rfl)
theorem dX3_compare_1 : decode cX3_compare 1 = .ok (.iload_n 1, 1) := dk_27 (dk_at dksX3_compare_0 1 rfl rfl)
theorem dX3_compare_2 : decode cX3_compare 2 = .ok (.invokevirtual 131, 3) := dk_182 0 131 (dk_at dksX3_compare_0 2 rfl rfl)
theorem dX3_compare_5 : decode cX3_compare 5 = .ok (.ifCond .eq 11, 3) := dk_153 0 11 (dk_at dksX3_compare_0 5 rfl rfl)
theorem dX3_compare_8 : decode cX3_compare 8 = .ok (.aload_n 0, 1) := dk_42 (dk_at dksX3_compare_0 8 rfl rfl)
theorem dX3_compare_9 : decode cX3_compare 9 = .ok (.iload_n 2, 1) := dk_28 (dk_at dksX3_compare_0 9 rfl rfl)
theorem dX3_compare_10 : decode cX3_compare 10 = .ok (.invokevirtual 131, 3) := dk_182 0 131 (dk_at dksX3_compare_0 10 rfl rfl)
theorem dX3_compare_13 : decode cX3_compare 13 = .ok (.ifCond .ne 10, 3) := dk_154 0 10 (dk_at dksX3_compare_0 13 rfl rfl)
theorem dX3_compare_16 : decode cX3_compare 16 = .ok (.aload_n 0, 1) := dk_42 (dk_at dksX3_compare_0 16 rfl rfl)
theorem dX3_compare_17 : decode cX3_compare 17 = .ok (.bipush 7, 2) := dk_16 7 (dk_at dksX3_compare_0 17 rfl rfl)
theorem dX3_compare_19 : decode cX3_compare 19 = .ok (.invokevirtual 68, 3) := dk_182 0 68 (dk_at dksX3_compare_0 19 rfl rfl)
theorem dX3_compare_22 : decode cX3_compare 22 = .ok (.ireturn, 1) := dk_172 (dk_at dksX3_compare_0 22 rfl rfl)
theorem dX3_compare_23 : decode cX3_compare 23 = .ok (.aload_n 0, 1) := dk_42 (dk_at dksX3_compare_0 23 rfl rfl)
theorem dX3_compare_24 : decode cX3_compare 24 = .ok (.getfield 20, 3) := dk_180 0 20 (dk_at dksX3_compare_1 0 rfl rfl)
theorem dX3_compare_27 : decode cX3_compare 27 = .ok (.iload_n 1, 1) := dk_27 (dk_at dksX3_compare_1 3 rfl rfl)
theorem dX3_compare_28 : decode cX3_compare 28 = .ok (.iaload, 1) := dk_46 (dk_at dksX3_compare_1 4 rfl rfl)
theorem dX3_compare_29 : decode cX3_compare 29 = .ok (.aload_n 0, 1) := dk_42 (dk_at dksX3_compare_1 5 rfl rfl)
theorem dX3_compare_30 : decode cX3_compare 30 = .ok (.getfield 20, 3) := dk_180 0 20 (dk_at dksX3_compare_1 6 rfl rfl)
theorem dX3_compare_33 : decode cX3_compare 33 = .ok (.iload_n 2, 1) := dk_28 (dk_at dksX3_compare_1 9 rfl rfl)
theorem dX3_compare_34 : decode cX3_compare 34 = .ok (.iaload, 1) := dk_46 (dk_at dksX3_compare_1 10 rfl rfl)
theorem dX3_compare_35 : decode cX3_compare 35 = .ok (.if_icmp .ne 13, 3) := dk_160 0 13 (dk_at dksX3_compare_1 11 rfl rfl)
theorem dX3_compare_38 : decode cX3_compare 38 = .ok (.aload_n 0, 1) := dk_42 (dk_at dksX3_compare_1 14 rfl rfl)
theorem dX3_compare_39 : decode cX3_compare 39 = .ok (.getfield 20, 3) := dk_180 0 20 (dk_at dksX3_compare_1 15 rfl rfl)
theorem dX3_compare_42 : decode cX3_compare 42 = .ok (.iload_n 1, 1) := dk_27 (dk_at dksX3_compare_1 18 rfl rfl)
theorem dX3_compare_43 : decode cX3_compare 43 = .ok (.iaload, 1) := dk_46 (dk_at dksX3_compare_1 19 rfl rfl)
theorem dX3_compare_44 : decode cX3_compare 44 = .ok (.iconst 3, 1) := dk_6 (dk_at dksX3_compare_1 20 rfl rfl)
theorem dX3_compare_45 : decode cX3_compare 45 = .ok (.if_icmp .lt 9, 3) := dk_161 0 9 (dk_at dksX3_compare_1 21 rfl rfl)
theorem dX3_compare_48 : decode cX3_compare 48 = .ok (.aload_n 0, 1) := dk_42 (dk_at dksX3_compare_2 0 rfl rfl)
theorem dX3_compare_49 : decode cX3_compare 49 = .ok (.iconst 2, 1) := dk_5 (dk_at dksX3_compare_2 1 rfl rfl)
theorem dX3_compare_50 : decode cX3_compare 50 = .ok (.invokevirtual 68, 3) := dk_182 0 68 (dk_at dksX3_compare_2 2 rfl rfl)
theorem dX3_compare_53 : decode cX3_compare 53 = .ok (.ireturn, 1) := dk_172 (dk_at dksX3_compare_2 5 rfl rfl)
theorem dX3_compare_54 : decode cX3_compare 54 = .ok (.aload_n 0, 1) := dk_42 (dk_at dksX3_compare_2 6 rfl rfl)
theorem dX3_compare_55 : decode cX3_compare 55 = .ok (.getfield 38, 3) := dk_180 0 38 (dk_at dksX3_compare_2 7 rfl rfl)
theorem dX3_compare_58 : decode cX3_compare 58 = .ok (.aload_n 0, 1) := dk_42 (dk_at dksX3_compare_2 10 rfl rfl)
theorem dX3_compare_59 : decode cX3_compare 59 = .ok (.getfield 32, 3) := dk_180 0 32 (dk_at dksX3_compare_2 11 rfl rfl)
theorem dX3_compare_62 : decode cX3_compare 62 = .ok (.iload_n 1, 1) := dk_27 (dk_at dksX3_compare_2 14 rfl rfl)
theorem dX3_compare_63 : decode cX3_compare 63 = .ok (.iaload, 1) := dk_46 (dk_at dksX3_compare_2 15 rfl rfl)
theorem dX3_compare_64 : decode cX3_compare 64 = .ok (.iaload, 1) := dk_46 (dk_at dksX3_compare_2 16 rfl rfl)
theorem dX3_compare_65 : decode cX3_compare 65 = .ok (.istore_n 3, 1) := dk_62 (dk_at dksX3_compare_2 17 rfl rfl)
theorem dX3_compare_66 : decode cX3_compare 66 = .ok (.aload_n 0, 1) := dk_42 (dk_at dksX3_compare_2 18 rfl rfl)
theorem dX3_compare_67 : decode cX3_compare 67 = .ok (.getfield 38, 3) := dk_180 0 38 (dk_at dksX3_compare_2 19 rfl rfl)
theorem dX3_compare_70 : decode cX3_compare 70 = .ok (.aload_n 0, 1) := dk_42 (dk_at dksX3_compare_2 22 rfl rfl)
theorem dX3_compare_71 : decode cX3_compare 71 = .ok (.getfield 32, 3) := dk_180 0 32 (dk_at dksX3_compare_3 0 rfl rfl)
theorem dX3_compare_74 : decode cX3_compare 74 = .ok (.iload_n 2, 1) := dk_28 (dk_at dksX3_compare_3 3 rfl rfl)
theorem dX3_compare_75 : decode cX3_compare 75 = .ok (.iaload, 1) := dk_46 (dk_at dksX3_compare_3 4 rfl rfl)
theorem dX3_compare_76 : decode cX3_compare 76 = .ok (.iaload, 1) := dk_46 (dk_at dksX3_compare_3 5 rfl rfl)
theorem dX3_compare_77 : decode cX3_compare 77 = .ok (.istore 4, 2) := dk_54 4 (dk_at dksX3_compare_3 6 rfl rfl)
theorem dX3_compare_79 : decode cX3_compare 79 = .ok (.iconst 0, 1) := dk_3 (dk_at dksX3_compare_3 8 rfl rfl)
theorem dX3_compare_80 : decode cX3_compare 80 = .ok (.istore 5, 2) := dk_54 5 (dk_at dksX3_compare_3 9 rfl rfl)
theorem dX3_compare_82 : decode cX3_compare 82 = .ok (.iload 5, 2) := dk_21 5 (dk_at dksX3_compare_3 11 rfl rfl)
theorem dX3_compare_84 : decode cX3_compare 84 = .ok (.iload_n 3, 1) := dk_29 (dk_at dksX3_compare_3 13 rfl rfl)
theorem dX3_compare_85 : decode cX3_compare 85 = .ok (.if_icmp .ge 84, 3) := dk_162 0 84 (dk_at dksX3_compare_3 14 rfl rfl)
theorem dX3_compare_88 : decode cX3_compare 88 = .ok (.iload 5, 2) := dk_21 5 (dk_at dksX3_compare_3 17 rfl rfl)
theorem dX3_compare_90 : decode cX3_compare 90 = .ok (.iload 4, 2) := dk_21 4 (dk_at dksX3_compare_3 19 rfl rfl)
theorem dX3_compare_92 : decode cX3_compare 92 = .ok (.if_icmp .ge 77, 3) := dk_162 0 77 (dk_at dksX3_compare_3 21 rfl rfl)
theorem dX3_compare_95 : decode cX3_compare 95 = .ok (.aload_n 0, 1) := dk_42 (dk_at dksX3_compare_4 0 rfl rfl)
theorem dX3_compare_96 : decode cX3_compare 96 = .ok (.getfield 42, 3) := dk_180 0 42 (dk_at dksX3_compare_4 1 rfl rfl)
theorem dX3_compare_99 : decode cX3_compare 99 = .ok (.aload_n 0, 1) := dk_42 (dk_at dksX3_compare_4 4 rfl rfl)
theorem dX3_compare_100 : decode cX3_compare 100 = .ok (.getfield 35, 3) := dk_180 0 35 (dk_at dksX3_compare_4 5 rfl rfl)
theorem dX3_compare_103 : decode cX3_compare 103 = .ok (.aload_n 0, 1) := dk_42 (dk_at dksX3_compare_4 8 rfl rfl)
theorem dX3_compare_104 : decode cX3_compare 104 = .ok (.getfield 32, 3) := dk_180 0 32 (dk_at dksX3_compare_4 9 rfl rfl)
theorem dX3_compare_107 : decode cX3_compare 107 = .ok (.iload_n 1, 1) := dk_27 (dk_at dksX3_compare_4 12 rfl rfl)
theorem dX3_compare_108 : decode cX3_compare 108 = .ok (.iaload, 1) := dk_46 (dk_at dksX3_compare_4 13 rfl rfl)
theorem dX3_compare_109 : decode cX3_compare 109 = .ok (.iaload, 1) := dk_46 (dk_at dksX3_compare_4 14 rfl rfl)
theorem dX3_compare_110 : decode cX3_compare 110 = .ok (.iload 5, 2) := dk_21 5 (dk_at dksX3_compare_4 15 rfl rfl)
theorem dX3_compare_112 : decode cX3_compare 112 = .ok (.iadd, 1) := dk_96 (dk_at dksX3_compare_4 17 rfl rfl)
theorem dX3_compare_113 : decode cX3_compare 113 = .ok (.laload, 1) := dk_47 (dk_at dksX3_compare_4 18 rfl rfl)
theorem dX3_compare_114 : decode cX3_compare 114 = .ok (.lstore 6, 2) := dk_55 6 (dk_at dksX3_compare_4 19 rfl rfl)
theorem dX3_compare_116 : decode cX3_compare 116 = .ok (.aload_n 0, 1) := dk_42 (dk_at dksX3_compare_4 21 rfl rfl)
theorem dX3_compare_117 : decode cX3_compare 117 = .ok (.getfield 42, 3) := dk_180 0 42 (dk_at dksX3_compare_5 0 rfl rfl)
theorem dX3_compare_120 : decode cX3_compare 120 = .ok (.aload_n 0, 1) := dk_42 (dk_at dksX3_compare_5 3 rfl rfl)
theorem dX3_compare_121 : decode cX3_compare 121 = .ok (.getfield 35, 3) := dk_180 0 35 (dk_at dksX3_compare_5 4 rfl rfl)
theorem dX3_compare_124 : decode cX3_compare 124 = .ok (.aload_n 0, 1) := dk_42 (dk_at dksX3_compare_5 7 rfl rfl)
theorem dX3_compare_125 : decode cX3_compare 125 = .ok (.getfield 32, 3) := dk_180 0 32 (dk_at dksX3_compare_5 8 rfl rfl)
theorem dX3_compare_128 : decode cX3_compare 128 = .ok (.iload_n 2, 1) := dk_28 (dk_at dksX3_compare_5 11 rfl rfl)
theorem dX3_compare_129 : decode cX3_compare 129 = .ok (.iaload, 1) := dk_46 (dk_at dksX3_compare_5 12 rfl rfl)
theorem dX3_compare_130 : decode cX3_compare 130 = .ok (.iaload, 1) := dk_46 (dk_at dksX3_compare_5 13 rfl rfl)
theorem dX3_compare_131 : decode cX3_compare 131 = .ok (.iload 5, 2) := dk_21 5 (dk_at dksX3_compare_5 14 rfl rfl)
theorem dX3_compare_133 : decode cX3_compare 133 = .ok (.iadd, 1) := dk_96 (dk_at dksX3_compare_5 16 rfl rfl)
theorem dX3_compare_134 : decode cX3_compare 134 = .ok (.laload, 1) := dk_47 (dk_at dksX3_compare_5 17 rfl rfl)
theorem dX3_compare_135 : decode cX3_compare 135 = .ok (.lstore 8, 2) := dk_55 8 (dk_at dksX3_compare_5 18 rfl rfl)
theorem dX3_compare_137 : decode cX3_compare 137 = .ok (.lload 6, 2) := dk_22 6 (dk_at dksX3_compare_5 20 rfl rfl)
theorem dX3_compare_139 : decode cX3_compare 139 = .ok (.lload 8, 2) := dk_22 8 (dk_at dksX3_compare_5 22 rfl rfl)
theorem dX3_compare_141 : decode cX3_compare 141 = .ok (.lcmp, 1) := dk_148 (dk_at dksX3_compare_6 0 rfl rfl)
theorem dX3_compare_142 : decode cX3_compare 142 = .ok (.ifCond .eq 21, 3) := dk_153 0 21 (dk_at dksX3_compare_6 1 rfl rfl)
theorem dX3_compare_145 : decode cX3_compare 145 = .ok (.aload_n 0, 1) := dk_42 (dk_at dksX3_compare_6 4 rfl rfl)
theorem dX3_compare_146 : decode cX3_compare 146 = .ok (.lload 6, 2) := dk_22 6 (dk_at dksX3_compare_6 5 rfl rfl)
theorem dX3_compare_148 : decode cX3_compare 148 = .ok (.lload 8, 2) := dk_22 8 (dk_at dksX3_compare_6 7 rfl rfl)
theorem dX3_compare_150 : decode cX3_compare 150 = .ok (.lcmp, 1) := dk_148 (dk_at dksX3_compare_6 9 rfl rfl)
theorem dX3_compare_151 : decode cX3_compare 151 = .ok (.ifCond .ge 7, 3) := dk_156 0 7 (dk_at dksX3_compare_6 10 rfl rfl)
theorem dX3_compare_154 : decode cX3_compare 154 = .ok (.iconst (-1), 1) := dk_2 (dk_at dksX3_compare_6 13 rfl rfl)
theorem dX3_compare_155 : decode cX3_compare 155 = .ok (.goto 4, 3) := dk_167 0 4 (dk_at dksX3_compare_6 14 rfl rfl)
theorem dX3_compare_158 : decode cX3_compare 158 = .ok (.iconst 1, 1) := dk_4 (dk_at dksX3_compare_6 17 rfl rfl)
theorem dX3_compare_159 : decode cX3_compare 159 = .ok (.invokevirtual 75, 3) := dk_182 0 75 (dk_at dksX3_compare_6 18 rfl rfl)
theorem dX3_compare_162 : decode cX3_compare 162 = .ok (.ireturn, 1) := dk_172 (dk_at dksX3_compare_6 21 rfl rfl)
theorem dX3_compare_163 : decode cX3_compare 163 = .ok (.iinc 5 1, 3) := dk_132 5 1 (dk_at dksX3_compare_7 0 rfl rfl)
theorem dX3_compare_166 : decode cX3_compare 166 = .ok (.goto (-84), 3) := dk_167 255 172 (dk_at dksX3_compare_7 3 rfl rfl)
theorem dX3_compare_169 : decode cX3_compare 169 = .ok (.aload_n 0, 1) := dk_42 (dk_at dksX3_compare_7 6 rfl rfl)
theorem dX3_compare_170 : decode cX3_compare 170 = .ok (.iload_n 3, 1) := dk_29 (dk_at dksX3_compare_7 7 rfl rfl)
theorem dX3_compare_171 : decode cX3_compare 171 = .ok (.iload 4, 2) := dk_21 4 (dk_at dksX3_compare_7 8 rfl rfl)
theorem dX3_compare_173 : decode cX3_compare 173 = .ok (.if_icmp .ge 7, 3) := dk_162 0 7 (dk_at dksX3_compare_7 10 rfl rfl)
theorem dX3_compare_176 : decode cX3_compare 176 = .ok (.iconst (-1), 1) := dk_2 (dk_at dksX3_compare_7 13 rfl rfl)
theorem dX3_compare_177 : decode cX3_compare 177 = .ok (.goto 14, 3) := dk_167 0 14 (dk_at dksX3_compare_7 14 rfl rfl)
theorem dX3_compare_180 : decode cX3_compare 180 = .ok (.iload_n 3, 1) := dk_29 (dk_at dksX3_compare_7 17 rfl rfl)
theorem dX3_compare_181 : decode cX3_compare 181 = .ok (.iload 4, 2) := dk_21 4 (dk_at dksX3_compare_7 18 rfl rfl)
theorem dX3_compare_183 : decode cX3_compare 183 = .ok (.if_icmp .le 7, 3) := dk_164 0 7 (dk_at dksX3_compare_7 20 rfl rfl)
theorem dX3_compare_186 : decode cX3_compare 186 = .ok (.iconst 1, 1) := dk_4 (dk_at dksX3_compare_7 23 rfl rfl)
theorem dX3_compare_187 : decode cX3_compare 187 = .ok (.goto 4, 3) := dk_167 0 4 (dk_at dksX3_compare_8 0 rfl rfl)
theorem dX3_compare_190 : decode cX3_compare 190 = .ok (.iconst 0, 1) := dk_3 (dk_at dksX3_compare_8 3 rfl rfl)
theorem dX3_compare_191 : decode cX3_compare 191 = .ok (.invokevirtual 75, 3) := dk_182 0 75 (dk_at dksX3_compare_8 4 rfl rfl)
theorem dX3_compare_194 : decode cX3_compare 194 = .ok (.ireturn, 1) := dk_172 (dk_at dksX3_compare_8 7 rfl rfl)
abbrev cX3_clear : ByteArray := prog_6_method_51_code
def yX3_clear : MethodName := ⟨RX3, "clear", "()I"⟩
def dkwX3_clear_2 : List UInt8 := [172]
abbrev dktX3_clear_2 : List UInt8 := dkwX3_clear_2 ++ []
def dkwX3_clear_1 : List UInt8 := [181, 0, 105, 42, 3, 181, 0, 175, 42, 3, 181, 0, 72, 42, 3, 181, 0, 65, 42, 2, 181, 0, 9, 27]
abbrev dktX3_clear_1 : List UInt8 := dkwX3_clear_1 ++ dktX3_clear_2
def dkwX3_clear_0 : List UInt8 := [42, 180, 0, 98, 60, 42, 3, 181, 0, 98, 42, 3, 181, 0, 86, 42, 3, 181, 0, 89, 42, 3]
abbrev dktX3_clear_0 : List UInt8 := dkwX3_clear_0 ++ dktX3_clear_1
theorem dksX3_clear_0 : cX3_clear.data.toList.drop 0 = dktX3_clear_0 := by decide +kernel
theorem dksX3_clear_1 : cX3_clear.data.toList.drop 22 = dktX3_clear_1 := dk_seg dksX3_clear_0 22 rfl rfl
theorem dksX3_clear_2 : cX3_clear.data.toList.drop 46 = dktX3_clear_2 := dk_seg dksX3_clear_1 24 rfl rfl
theorem dX3_clear_0 : decode cX3_clear 0 = .ok (.aload_n 0, 1) := dk_42 (dk_at dksX3_clear_0 0 rfl rfl)
theorem dX3_clear_1 : decode cX3_clear 1 = .ok (.getfield 98, 3) := dk_180 0 98 (dk_at dksX3_clear_0 1 rfl rfl)
theorem dX3_clear_4 : decode cX3_clear 4 = .ok (.istore_n 1, 1) := dk_60 (dk_at dksX3_clear_0 4 rfl rfl)
theorem dX3_clear_5 : decode cX3_clear 5 = .ok (.aload_n 0, 1) := dk_42 (dk_at dksX3_clear_0 5 rfl rfl)
theorem dX3_clear_6 : decode cX3_clear 6 = .ok (.iconst 0, 1) := dk_3 (dk_at dksX3_clear_0 6 rfl rfl)
theorem dX3_clear_7 : decode cX3_clear 7 = .ok (.putfield 98, 3) := dk_181 0 98 (dk_at dksX3_clear_0 7 rfl rfl)
theorem dX3_clear_10 : decode cX3_clear 10 = .ok (.aload_n 0, 1) := dk_42 (dk_at dksX3_clear_0 10 rfl rfl)
theorem dX3_clear_11 : decode cX3_clear 11 = .ok (.iconst 0, 1) := dk_3 (dk_at dksX3_clear_0 11 rfl rfl)
theorem dX3_clear_12 : decode cX3_clear 12 = .ok (.putfield 86, 3) := dk_181 0 86 (dk_at dksX3_clear_0 12 rfl rfl)
theorem dX3_clear_15 : decode cX3_clear 15 = .ok (.aload_n 0, 1) := dk_42 (dk_at dksX3_clear_0 15 rfl rfl)
theorem dX3_clear_16 : decode cX3_clear 16 = .ok (.iconst 0, 1) := dk_3 (dk_at dksX3_clear_0 16 rfl rfl)
theorem dX3_clear_17 : decode cX3_clear 17 = .ok (.putfield 89, 3) := dk_181 0 89 (dk_at dksX3_clear_0 17 rfl rfl)
theorem dX3_clear_20 : decode cX3_clear 20 = .ok (.aload_n 0, 1) := dk_42 (dk_at dksX3_clear_0 20 rfl rfl)
theorem dX3_clear_21 : decode cX3_clear 21 = .ok (.iconst 0, 1) := dk_3 (dk_at dksX3_clear_0 21 rfl rfl)
theorem dX3_clear_22 : decode cX3_clear 22 = .ok (.putfield 105, 3) := dk_181 0 105 (dk_at dksX3_clear_1 0 rfl rfl)
theorem dX3_clear_25 : decode cX3_clear 25 = .ok (.aload_n 0, 1) := dk_42 (dk_at dksX3_clear_1 3 rfl rfl)
theorem dX3_clear_26 : decode cX3_clear 26 = .ok (.iconst 0, 1) := dk_3 (dk_at dksX3_clear_1 4 rfl rfl)
theorem dX3_clear_27 : decode cX3_clear 27 = .ok (.putfield 175, 3) := dk_181 0 175 (dk_at dksX3_clear_1 5 rfl rfl)
theorem dX3_clear_30 : decode cX3_clear 30 = .ok (.aload_n 0, 1) := dk_42 (dk_at dksX3_clear_1 8 rfl rfl)
theorem dX3_clear_31 : decode cX3_clear 31 = .ok (.iconst 0, 1) := dk_3 (dk_at dksX3_clear_1 9 rfl rfl)
theorem dX3_clear_32 : decode cX3_clear 32 = .ok (.putfield 72, 3) := dk_181 0 72 (dk_at dksX3_clear_1 10 rfl rfl)
theorem dX3_clear_35 : decode cX3_clear 35 = .ok (.aload_n 0, 1) := dk_42 (dk_at dksX3_clear_1 13 rfl rfl)
theorem dX3_clear_36 : decode cX3_clear 36 = .ok (.iconst 0, 1) := dk_3 (dk_at dksX3_clear_1 14 rfl rfl)
theorem dX3_clear_37 : decode cX3_clear 37 = .ok (.putfield 65, 3) := dk_181 0 65 (dk_at dksX3_clear_1 15 rfl rfl)
theorem dX3_clear_40 : decode cX3_clear 40 = .ok (.aload_n 0, 1) := dk_42 (dk_at dksX3_clear_1 18 rfl rfl)
theorem dX3_clear_41 : decode cX3_clear 41 = .ok (.iconst (-1), 1) := dk_2 (dk_at dksX3_clear_1 19 rfl rfl)
theorem dX3_clear_42 : decode cX3_clear 42 = .ok (.putfield 9, 3) := dk_181 0 9 (dk_at dksX3_clear_1 20 rfl rfl)
theorem dX3_clear_45 : decode cX3_clear 45 = .ok (.iload_n 1, 1) := dk_27 (dk_at dksX3_clear_1 23 rfl rfl)
theorem dX3_clear_46 : decode cX3_clear 46 = .ok (.ireturn, 1) := dk_172 (dk_at dksX3_clear_2 0 rfl rfl)
theorem q31 : (Jvm.Cond.initialized "ArrayMakerModel") ∈ lw_all := lw_g (lw_at lw_m1 4 rfl) rfl
theorem q525 : (Jvm.Cond.instantiable "ArrayMakerModel" (25 : Nat)) ∈ lw_all := lw_g (lw_at lw_m3 18 rfl) rfl
theorem q527 : (Jvm.Cond.instanceMethod ({ cls := "ArrayMakerModel", name := "<init>", desc := "()V" } : Jvm.MethodName)) ∈ lw_all := lw_g (lw_at lw_m3 20 rfl) rfl
theorem q528 : (Jvm.Cond.code ({ cls := "ArrayMakerModel", name := "<init>", desc := "()V" } : Jvm.MethodName) prog_6_method_1_code (1 : Nat) (Option.none : Option Jvm.ClassFile.FieldType)) ∈ lw_all := lw_g (lw_at lw_m3 21 rfl) rfl
theorem q529 : (Jvm.Cond.methodLink "ArrayMakerModel" (1 : Nat) ({ cls := "java/lang/Object", name := "<init>", desc := "()V" } : Jvm.MethodName)) ∈ lw_all := lw_g (lw_at lw_m3 22 rfl) rfl
theorem q530 : (Jvm.Cond.constant "ArrayMakerModel" (41 : Nat) (300000 : Int32)) ∈ lw_all := lw_g (lw_at lw_m3 23 rfl) rfl
theorem q531 : (Jvm.Cond.fieldLink "ArrayMakerModel" (65 : Nat) "ArrayMakerModel" "code" "I") ∈ lw_all := lw_g (lw_at lw_m3 24 rfl) rfl
theorem q532 : (Jvm.Cond.fieldLink "ArrayMakerModel" (9 : Nat) "ArrayMakerModel" "which" "I") ∈ lw_all := lw_g (lw_at lw_m3 25 rfl) rfl
theorem q533 : (Jvm.Cond.fieldLink "ArrayMakerModel" (72 : Nat) "ArrayMakerModel" "dimensions" "I") ∈ lw_all := lw_g (lw_at lw_m3 26 rfl) rfl
theorem q534 : (Jvm.Cond.fieldLink "ArrayMakerModel" (13 : Nat) "ArrayMakerModel" "low" "[I") ∈ lw_all := lw_g (lw_at lw_m3 27 rfl) rfl
theorem q535 : (Jvm.Cond.fieldLink "ArrayMakerModel" (17 : Nat) "ArrayMakerModel" "high" "[I") ∈ lw_all := lw_g (lw_at lw_m3 28 rfl) rfl
theorem q536 : (Jvm.Cond.fieldLink "ArrayMakerModel" (98 : Nat) "ArrayMakerModel" "arrays" "I") ∈ lw_all := lw_g (lw_at lw_m3 29 rfl) rfl
theorem q537 : (Jvm.Cond.fieldLink "ArrayMakerModel" (20 : Nat) "ArrayMakerModel" "kinds" "[I") ∈ lw_all := lw_g (lw_at lw_m3 30 rfl) rfl
theorem q538 : (Jvm.Cond.fieldLink "ArrayMakerModel" (23 : Nat) "ArrayMakerModel" "ranks" "[I") ∈ lw_all := lw_g (lw_at lw_m3 31 rfl) rfl
theorem q539 : (Jvm.Cond.fieldLink "ArrayMakerModel" (26 : Nat) "ArrayMakerModel" "lows" "[I") ∈ lw_all := lw_g (lw_at lw_m3 32 rfl) rfl
theorem q540 : (Jvm.Cond.fieldLink "ArrayMakerModel" (29 : Nat) "ArrayMakerModel" "highs" "[I") ∈ lw_all := lw_g (lw_at lw_m3 33 rfl) rfl
theorem q541 : (Jvm.Cond.fieldLink "ArrayMakerModel" (32 : Nat) "ArrayMakerModel" "rowOf" "[I") ∈ lw_all := lw_g (lw_at lw_m3 34 rfl) rfl
theorem q542 : (Jvm.Cond.fieldLink "ArrayMakerModel" (86 : Nat) "ArrayMakerModel" "rows" "I") ∈ lw_all := lw_g (lw_at lw_m3 35 rfl) rfl
theorem q543 : (Jvm.Cond.fieldLink "ArrayMakerModel" (35 : Nat) "ArrayMakerModel" "rowAt" "[I") ∈ lw_all := lw_g (lw_at lw_m3 36 rfl) rfl
theorem q544 : (Jvm.Cond.fieldLink "ArrayMakerModel" (38 : Nat) "ArrayMakerModel" "rowSize" "[I") ∈ lw_all := lw_g (lw_at lw_m3 37 rfl) rfl
theorem q545 : (Jvm.Cond.fieldLink "ArrayMakerModel" (89 : Nat) "ArrayMakerModel" "pooled" "I") ∈ lw_all := lw_g (lw_at lw_m3 38 rfl) rfl
theorem q546 : (Jvm.Cond.fieldLink "ArrayMakerModel" (42 : Nat) "ArrayMakerModel" "pool" "[J") ∈ lw_all := lw_g (lw_at lw_m3 39 rfl) rfl
theorem q547 : (Jvm.Cond.fieldLink "ArrayMakerModel" (46 : Nat) "ArrayMakerModel" "hasBox" "[Z") ∈ lw_all := lw_g (lw_at lw_m3 40 rfl) rfl
theorem q548 : (Jvm.Cond.fieldLink "ArrayMakerModel" (105 : Nat) "ArrayMakerModel" "slots" "I") ∈ lw_all := lw_g (lw_at lw_m3 41 rfl) rfl
theorem q549 : (Jvm.Cond.fieldLink "ArrayMakerModel" (50 : Nat) "ArrayMakerModel" "slot" "[I") ∈ lw_all := lw_g (lw_at lw_m3 42 rfl) rfl
theorem q550 : (Jvm.Cond.fieldLink "ArrayMakerModel" (175 : Nat) "ArrayMakerModel" "lines" "I") ∈ lw_all := lw_g (lw_at lw_m3 43 rfl) rfl
theorem q551 : (Jvm.Cond.fieldLink "ArrayMakerModel" (53 : Nat) "ArrayMakerModel" "lineI" "[I") ∈ lw_all := lw_g (lw_at lw_m3 44 rfl) rfl
theorem q552 : (Jvm.Cond.fieldLink "ArrayMakerModel" (56 : Nat) "ArrayMakerModel" "lineJ" "[I") ∈ lw_all := lw_g (lw_at lw_m3 45 rfl) rfl
theorem q553 : (Jvm.Cond.fieldLink "ArrayMakerModel" (59 : Nat) "ArrayMakerModel" "lineK" "[I") ∈ lw_all := lw_g (lw_at lw_m3 46 rfl) rfl
theorem q554 : (Jvm.Cond.fieldLink "ArrayMakerModel" (62 : Nat) "ArrayMakerModel" "lineV" "[J") ∈ lw_all := lw_g (lw_at lw_m3 47 rfl) rfl
theorem q555 : (Jvm.Cond.fieldLink "ArrayMakerModel" (142 : Nat) "ArrayMakerModel" "beyond" "I") ∈ lw_all := lw_g (lw_at lw_m3 48 rfl) rfl
theorem q556 : (Jvm.Cond.lays "ArrayMakerModel" "ArrayMakerModel" "code" "I") ∈ lw_all := lw_g (lw_at lw_m3 49 rfl) rfl
theorem q557 : (Jvm.Cond.soleField "ArrayMakerModel" "code") ∈ lw_all := lw_g (lw_at lw_m3 50 rfl) rfl
theorem q558 : (Jvm.Cond.lays "ArrayMakerModel" "ArrayMakerModel" "which" "I") ∈ lw_all := lw_g (lw_at lw_m3 51 rfl) rfl
theorem q559 : (Jvm.Cond.soleField "ArrayMakerModel" "which") ∈ lw_all := lw_g (lw_at lw_m3 52 rfl) rfl
theorem q560 : (Jvm.Cond.lays "ArrayMakerModel" "ArrayMakerModel" "dimensions" "I") ∈ lw_all := lw_g (lw_at lw_m3 53 rfl) rfl
theorem q561 : (Jvm.Cond.soleField "ArrayMakerModel" "dimensions") ∈ lw_all := lw_g (lw_at lw_m3 54 rfl) rfl
theorem q562 : (Jvm.Cond.laysFinal "ArrayMakerModel" "ArrayMakerModel" "low" "[I") ∈ lw_all := lw_g (lw_at lw_m3 55 rfl) rfl
theorem q563 : (Jvm.Cond.soleField "ArrayMakerModel" "low") ∈ lw_all := lw_g (lw_at lw_m3 56 rfl) rfl
theorem q564 : (Jvm.Cond.laysFinal "ArrayMakerModel" "ArrayMakerModel" "high" "[I") ∈ lw_all := lw_g (lw_at lw_m3 57 rfl) rfl
theorem q565 : (Jvm.Cond.soleField "ArrayMakerModel" "high") ∈ lw_all := lw_g (lw_at lw_m3 58 rfl) rfl
theorem q566 : (Jvm.Cond.lays "ArrayMakerModel" "ArrayMakerModel" "arrays" "I") ∈ lw_all := lw_g (lw_at lw_m3 59 rfl) rfl
theorem q567 : (Jvm.Cond.soleField "ArrayMakerModel" "arrays") ∈ lw_all := lw_g (lw_at lw_m3 60 rfl) rfl
theorem q568 : (Jvm.Cond.laysFinal "ArrayMakerModel" "ArrayMakerModel" "kinds" "[I") ∈ lw_all := lw_g (lw_at lw_m3 61 rfl) rfl
theorem q569 : (Jvm.Cond.soleField "ArrayMakerModel" "kinds") ∈ lw_all := lw_g (lw_at lw_m3 62 rfl) rfl
theorem q570 : (Jvm.Cond.laysFinal "ArrayMakerModel" "ArrayMakerModel" "ranks" "[I") ∈ lw_all := lw_g (lw_at lw_m3 63 rfl) rfl
theorem q571 : (Jvm.Cond.soleField "ArrayMakerModel" "ranks") ∈ lw_all := lw_g (lw_at lw_m3 64 rfl) rfl
theorem q572 : (Jvm.Cond.laysFinal "ArrayMakerModel" "ArrayMakerModel" "lows" "[I") ∈ lw_all := lw_g (lw_at lw_m3 65 rfl) rfl
theorem q573 : (Jvm.Cond.soleField "ArrayMakerModel" "lows") ∈ lw_all := lw_g (lw_at lw_m3 66 rfl) rfl
theorem q574 : (Jvm.Cond.laysFinal "ArrayMakerModel" "ArrayMakerModel" "highs" "[I") ∈ lw_all := lw_g (lw_at lw_m3 67 rfl) rfl
theorem q575 : (Jvm.Cond.soleField "ArrayMakerModel" "highs") ∈ lw_all := lw_g (lw_at lw_m3 68 rfl) rfl
theorem q576 : (Jvm.Cond.laysFinal "ArrayMakerModel" "ArrayMakerModel" "rowOf" "[I") ∈ lw_all := lw_g (lw_at lw_m3 69 rfl) rfl
theorem q577 : (Jvm.Cond.soleField "ArrayMakerModel" "rowOf") ∈ lw_all := lw_g (lw_at lw_m3 70 rfl) rfl
theorem q578 : (Jvm.Cond.lays "ArrayMakerModel" "ArrayMakerModel" "rows" "I") ∈ lw_all := lw_g (lw_at lw_m3 71 rfl) rfl
theorem q579 : (Jvm.Cond.soleField "ArrayMakerModel" "rows") ∈ lw_all := lw_g (lw_at lw_m3 72 rfl) rfl
theorem q580 : (Jvm.Cond.laysFinal "ArrayMakerModel" "ArrayMakerModel" "rowAt" "[I") ∈ lw_all := lw_g (lw_at lw_m3 73 rfl) rfl
theorem q581 : (Jvm.Cond.soleField "ArrayMakerModel" "rowAt") ∈ lw_all := lw_g (lw_at lw_m3 74 rfl) rfl
theorem q582 : (Jvm.Cond.laysFinal "ArrayMakerModel" "ArrayMakerModel" "rowSize" "[I") ∈ lw_all := lw_g (lw_at lw_m3 75 rfl) rfl
theorem q583 : (Jvm.Cond.soleField "ArrayMakerModel" "rowSize") ∈ lw_all := lw_g (lw_at lw_m3 76 rfl) rfl
theorem q584 : (Jvm.Cond.lays "ArrayMakerModel" "ArrayMakerModel" "pooled" "I") ∈ lw_all := lw_g (lw_at lw_m3 77 rfl) rfl
theorem q585 : (Jvm.Cond.soleField "ArrayMakerModel" "pooled") ∈ lw_all := lw_g (lw_at lw_m3 78 rfl) rfl
theorem q586 : (Jvm.Cond.laysFinal "ArrayMakerModel" "ArrayMakerModel" "pool" "[J") ∈ lw_all := lw_g (lw_at lw_m3 79 rfl) rfl
theorem q587 : (Jvm.Cond.soleField "ArrayMakerModel" "pool") ∈ lw_all := lw_g (lw_at lw_m3 80 rfl) rfl
theorem q588 : (Jvm.Cond.laysFinal "ArrayMakerModel" "ArrayMakerModel" "hasBox" "[Z") ∈ lw_all := lw_g (lw_at lw_m3 81 rfl) rfl
theorem q589 : (Jvm.Cond.soleField "ArrayMakerModel" "hasBox") ∈ lw_all := lw_g (lw_at lw_m3 82 rfl) rfl
theorem q590 : (Jvm.Cond.lays "ArrayMakerModel" "ArrayMakerModel" "slots" "I") ∈ lw_all := lw_g (lw_at lw_m3 83 rfl) rfl
theorem q591 : (Jvm.Cond.soleField "ArrayMakerModel" "slots") ∈ lw_all := lw_g (lw_at lw_m3 84 rfl) rfl
theorem q592 : (Jvm.Cond.laysFinal "ArrayMakerModel" "ArrayMakerModel" "slot" "[I") ∈ lw_all := lw_g (lw_at lw_m3 85 rfl) rfl
theorem q593 : (Jvm.Cond.soleField "ArrayMakerModel" "slot") ∈ lw_all := lw_g (lw_at lw_m3 86 rfl) rfl
theorem q594 : (Jvm.Cond.lays "ArrayMakerModel" "ArrayMakerModel" "lines" "I") ∈ lw_all := lw_g (lw_at lw_m3 87 rfl) rfl
theorem q595 : (Jvm.Cond.soleField "ArrayMakerModel" "lines") ∈ lw_all := lw_g (lw_at lw_m3 88 rfl) rfl
theorem q596 : (Jvm.Cond.laysFinal "ArrayMakerModel" "ArrayMakerModel" "lineI" "[I") ∈ lw_all := lw_g (lw_at lw_m3 89 rfl) rfl
theorem q597 : (Jvm.Cond.soleField "ArrayMakerModel" "lineI") ∈ lw_all := lw_g (lw_at lw_m3 90 rfl) rfl
theorem q598 : (Jvm.Cond.laysFinal "ArrayMakerModel" "ArrayMakerModel" "lineJ" "[I") ∈ lw_all := lw_g (lw_at lw_m3 91 rfl) rfl
theorem q599 : (Jvm.Cond.soleField "ArrayMakerModel" "lineJ") ∈ lw_all := lw_g (lw_at lw_m3 92 rfl) rfl
theorem q600 : (Jvm.Cond.laysFinal "ArrayMakerModel" "ArrayMakerModel" "lineK" "[I") ∈ lw_all := lw_g (lw_at lw_m3 93 rfl) rfl
theorem q601 : (Jvm.Cond.soleField "ArrayMakerModel" "lineK") ∈ lw_all := lw_g (lw_at lw_m3 94 rfl) rfl
theorem q602 : (Jvm.Cond.laysFinal "ArrayMakerModel" "ArrayMakerModel" "lineV" "[J") ∈ lw_all := lw_g (lw_at lw_m3 95 rfl) rfl
theorem q603 : (Jvm.Cond.soleField "ArrayMakerModel" "lineV") ∈ lw_all := lw_g (lw_at lw_m3 96 rfl) rfl
theorem q604 : (Jvm.Cond.lays "ArrayMakerModel" "ArrayMakerModel" "beyond" "I") ∈ lw_all := lw_g (lw_at lw_m3 97 rfl) rfl
theorem q605 : (Jvm.Cond.soleField "ArrayMakerModel" "beyond") ∈ lw_all := lw_g (lw_at lw_m3 98 rfl) rfl
theorem q606 : (Jvm.Cond.superclass "ArrayMakerModel" "java/lang/Object") ∈ lw_all := lw_g (lw_at lw_m3 99 rfl) rfl
theorem q609 : (Jvm.Cond.instanceMethod ({ cls := "ArrayMakerModel", name := "code", desc := "()I" } : Jvm.MethodName)) ∈ lw_all := lw_g (lw_at lw_m3 102 rfl) rfl
theorem q610 : (Jvm.Cond.selects "ArrayMakerModel" ({ cls := "ArrayMakerModel", name := "code", desc := "()I" } : Jvm.MethodName) ({ cls := "ArrayMakerModel", name := "code", desc := "()I" } : Jvm.MethodName)) ∈ lw_all := lw_g (lw_at lw_m3 103 rfl) rfl
theorem q611 : (Jvm.Cond.code ({ cls := "ArrayMakerModel", name := "code", desc := "()I" } : Jvm.MethodName) prog_6_method_4_code (1 : Nat) (Option.some Jvm.ClassFile.FieldType.int)) ∈ lw_all := lw_g (lw_at lw_m3 104 rfl) rfl
theorem q613 : (Jvm.Cond.instanceMethod ({ cls := "ArrayMakerModel", name := "which", desc := "()I" } : Jvm.MethodName)) ∈ lw_all := lw_g (lw_at lw_m3 106 rfl) rfl
theorem q614 : (Jvm.Cond.selects "ArrayMakerModel" ({ cls := "ArrayMakerModel", name := "which", desc := "()I" } : Jvm.MethodName) ({ cls := "ArrayMakerModel", name := "which", desc := "()I" } : Jvm.MethodName)) ∈ lw_all := lw_g (lw_at lw_m3 107 rfl) rfl
theorem q615 : (Jvm.Cond.code ({ cls := "ArrayMakerModel", name := "which", desc := "()I" } : Jvm.MethodName) prog_6_method_5_code (1 : Nat) (Option.some Jvm.ClassFile.FieldType.int)) ∈ lw_all := lw_g (lw_at lw_m3 108 rfl) rfl
theorem q617 : (Jvm.Cond.instanceMethod ({ cls := "ArrayMakerModel", name := "range", desc := "(II)I" } : Jvm.MethodName)) ∈ lw_all := lw_g (lw_at lw_m3 110 rfl) rfl
theorem q618 : (Jvm.Cond.selects "ArrayMakerModel" ({ cls := "ArrayMakerModel", name := "range", desc := "(II)I" } : Jvm.MethodName) ({ cls := "ArrayMakerModel", name := "range", desc := "(II)I" } : Jvm.MethodName)) ∈ lw_all := lw_g (lw_at lw_m3 111 rfl) rfl
theorem q619 : (Jvm.Cond.code ({ cls := "ArrayMakerModel", name := "range", desc := "(II)I" } : Jvm.MethodName) prog_6_method_9_code (3 : Nat) (Option.some Jvm.ClassFile.FieldType.int)) ∈ lw_all := lw_g (lw_at lw_m3 112 rfl) rfl
theorem q620 : (Jvm.Cond.methodLink "ArrayMakerModel" (68 : Nat) ({ cls := "ArrayMakerModel", name := "no", desc := "(I)I" } : Jvm.MethodName)) ∈ lw_all := lw_g (lw_at lw_m3 113 rfl) rfl
theorem q621 : (Jvm.Cond.privateMethod ({ cls := "ArrayMakerModel", name := "no", desc := "(I)I" } : Jvm.MethodName)) ∈ lw_tbl := lw_at lw_m3 114 rfl
theorem q622 : (Jvm.Cond.instanceMethod ({ cls := "ArrayMakerModel", name := "no", desc := "(I)I" } : Jvm.MethodName)) ∈ lw_all := lw_g (lw_at lw_m3 115 rfl) rfl
theorem q623 : (Jvm.Cond.code ({ cls := "ArrayMakerModel", name := "no", desc := "(I)I" } : Jvm.MethodName) prog_6_method_6_code (2 : Nat) (Option.some Jvm.ClassFile.FieldType.int)) ∈ lw_all := lw_g (lw_at lw_m3 116 rfl) rfl
theorem q624 : (Jvm.Cond.methodLink "ArrayMakerModel" (75 : Nat) ({ cls := "ArrayMakerModel", name := "yes", desc := "(I)I" } : Jvm.MethodName)) ∈ lw_all := lw_g (lw_at lw_m3 117 rfl) rfl
theorem q625 : (Jvm.Cond.privateMethod ({ cls := "ArrayMakerModel", name := "yes", desc := "(I)I" } : Jvm.MethodName)) ∈ lw_tbl := lw_at lw_m3 118 rfl
theorem q626 : (Jvm.Cond.instanceMethod ({ cls := "ArrayMakerModel", name := "yes", desc := "(I)I" } : Jvm.MethodName)) ∈ lw_all := lw_g (lw_at lw_m3 119 rfl) rfl
theorem q627 : (Jvm.Cond.code ({ cls := "ArrayMakerModel", name := "yes", desc := "(I)I" } : Jvm.MethodName) prog_6_method_8_code (2 : Nat) (Option.some Jvm.ClassFile.FieldType.int)) ∈ lw_all := lw_g (lw_at lw_m3 120 rfl) rfl
theorem q629 : (Jvm.Cond.instanceMethod ({ cls := "ArrayMakerModel", name := "shapeless", desc := "()I" } : Jvm.MethodName)) ∈ lw_all := lw_g (lw_at lw_m3 122 rfl) rfl
theorem q630 : (Jvm.Cond.selects "ArrayMakerModel" ({ cls := "ArrayMakerModel", name := "shapeless", desc := "()I" } : Jvm.MethodName) ({ cls := "ArrayMakerModel", name := "shapeless", desc := "()I" } : Jvm.MethodName)) ∈ lw_all := lw_g (lw_at lw_m3 123 rfl) rfl
theorem q631 : (Jvm.Cond.code ({ cls := "ArrayMakerModel", name := "shapeless", desc := "()I" } : Jvm.MethodName) prog_6_method_10_code (2 : Nat) (Option.some Jvm.ClassFile.FieldType.int)) ∈ lw_all := lw_g (lw_at lw_m3 124 rfl) rfl
theorem q633 : (Jvm.Cond.instanceMethod ({ cls := "ArrayMakerModel", name := "make", desc := "(I)I" } : Jvm.MethodName)) ∈ lw_all := lw_g (lw_at lw_m3 126 rfl) rfl
theorem q634 : (Jvm.Cond.selects "ArrayMakerModel" ({ cls := "ArrayMakerModel", name := "make", desc := "(I)I" } : Jvm.MethodName) ({ cls := "ArrayMakerModel", name := "make", desc := "(I)I" } : Jvm.MethodName)) ∈ lw_all := lw_g (lw_at lw_m3 127 rfl) rfl
theorem q635 : (Jvm.Cond.code ({ cls := "ArrayMakerModel", name := "make", desc := "(I)I" } : Jvm.MethodName) prog_6_method_19_code (4 : Nat) (Option.some Jvm.ClassFile.FieldType.int)) ∈ lw_all := lw_g (lw_at lw_m3 128 rfl) rfl
theorem q636 : (Jvm.Cond.constantLong "ArrayMakerModel" (114 : Nat) (4 : Int64)) ∈ lw_all := lw_g (lw_at lw_m3 129 rfl) rfl
theorem q637 : (Jvm.Cond.methodLink "ArrayMakerModel" (101 : Nat) ({ cls := "ArrayMakerModel", name := "within", desc := "(JJJ)Z" } : Jvm.MethodName)) ∈ lw_all := lw_g (lw_at lw_m3 130 rfl) rfl
theorem q638 : (Jvm.Cond.static ({ cls := "ArrayMakerModel", name := "within", desc := "(JJJ)Z" } : Jvm.MethodName)) ∈ lw_all := lw_g (lw_at lw_m3 131 rfl) rfl
theorem q639 : (Jvm.Cond.code ({ cls := "ArrayMakerModel", name := "within", desc := "(JJJ)Z" } : Jvm.MethodName) prog_6_method_3_code (6 : Nat) (Option.some Jvm.ClassFile.FieldType.boolean)) ∈ lw_all := lw_g (lw_at lw_m3 132 rfl) rfl
theorem q640 : (Jvm.Cond.constant "ArrayMakerModel" (116 : Nat) (-2000000001 : Int32)) ∈ lw_all := lw_g (lw_at lw_m3 133 rfl) rfl
theorem q641 : (Jvm.Cond.methodLink "ArrayMakerModel" (117 : Nat) ({ cls := "ArrayMakerModel", name := "shapeItems", desc := "()I" } : Jvm.MethodName)) ∈ lw_all := lw_g (lw_at lw_m3 134 rfl) rfl
theorem q642 : (Jvm.Cond.privateMethod ({ cls := "ArrayMakerModel", name := "shapeItems", desc := "()I" } : Jvm.MethodName)) ∈ lw_tbl := lw_at lw_m3 135 rfl
theorem q643 : (Jvm.Cond.instanceMethod ({ cls := "ArrayMakerModel", name := "shapeItems", desc := "()I" } : Jvm.MethodName)) ∈ lw_all := lw_g (lw_at lw_m3 136 rfl) rfl
theorem q644 : (Jvm.Cond.code ({ cls := "ArrayMakerModel", name := "shapeItems", desc := "()I" } : Jvm.MethodName) prog_6_method_12_code (7 : Nat) (Option.some Jvm.ClassFile.FieldType.int)) ∈ lw_all := lw_g (lw_at lw_m3 137 rfl) rfl
theorem q645 : (Jvm.Cond.methodLink "ArrayMakerModel" (78 : Nat) ({ cls := "ArrayMakerModel", name := "length", desc := "(II)J" } : Jvm.MethodName)) ∈ lw_all := lw_g (lw_at lw_m3 138 rfl) rfl
theorem q646 : (Jvm.Cond.static ({ cls := "ArrayMakerModel", name := "length", desc := "(II)J" } : Jvm.MethodName)) ∈ lw_all := lw_g (lw_at lw_m3 139 rfl) rfl
theorem q647 : (Jvm.Cond.code ({ cls := "ArrayMakerModel", name := "length", desc := "(II)J" } : Jvm.MethodName) prog_6_method_11_code (4 : Nat) (Option.some Jvm.ClassFile.FieldType.long)) ∈ lw_all := lw_g (lw_at lw_m3 140 rfl) rfl
theorem q648 : (Jvm.Cond.constantLong "ArrayMakerModel" (82 : Nat) (500 : Int64)) ∈ lw_all := lw_g (lw_at lw_m3 141 rfl) rfl
theorem q649 : (Jvm.Cond.constantLong "ArrayMakerModel" (84 : Nat) (501 : Int64)) ∈ lw_all := lw_g (lw_at lw_m3 142 rfl) rfl
theorem q650 : (Jvm.Cond.methodLink "ArrayMakerModel" (121 : Nat) ({ cls := "ArrayMakerModel", name := "newArray", desc := "(II)I" } : Jvm.MethodName)) ∈ lw_all := lw_g (lw_at lw_m3 143 rfl) rfl
theorem q651 : (Jvm.Cond.privateMethod ({ cls := "ArrayMakerModel", name := "newArray", desc := "(II)I" } : Jvm.MethodName)) ∈ lw_tbl := lw_at lw_m3 144 rfl
theorem q652 : (Jvm.Cond.instanceMethod ({ cls := "ArrayMakerModel", name := "newArray", desc := "(II)I" } : Jvm.MethodName)) ∈ lw_all := lw_g (lw_at lw_m3 145 rfl) rfl
theorem q653 : (Jvm.Cond.code ({ cls := "ArrayMakerModel", name := "newArray", desc := "(II)I" } : Jvm.MethodName) prog_6_method_17_code (4 : Nat) (Option.some Jvm.ClassFile.FieldType.int)) ∈ lw_all := lw_g (lw_at lw_m3 146 rfl) rfl
theorem q654 : (Jvm.Cond.methodLink "ArrayMakerModel" (125 : Nat) ({ cls := "ArrayMakerModel", name := "newTable", desc := "(I)V" } : Jvm.MethodName)) ∈ lw_all := lw_g (lw_at lw_m3 147 rfl) rfl
theorem q655 : (Jvm.Cond.privateMethod ({ cls := "ArrayMakerModel", name := "newTable", desc := "(I)V" } : Jvm.MethodName)) ∈ lw_tbl := lw_at lw_m3 148 rfl
theorem q656 : (Jvm.Cond.instanceMethod ({ cls := "ArrayMakerModel", name := "newTable", desc := "(I)V" } : Jvm.MethodName)) ∈ lw_all := lw_g (lw_at lw_m3 149 rfl) rfl
theorem q657 : (Jvm.Cond.code ({ cls := "ArrayMakerModel", name := "newTable", desc := "(I)V" } : Jvm.MethodName) prog_6_method_18_code (5 : Nat) (Option.none : Option Jvm.ClassFile.FieldType)) ∈ lw_all := lw_g (lw_at lw_m3 150 rfl) rfl
theorem q658 : (Jvm.Cond.methodLink "ArrayMakerModel" (108 : Nat) ({ cls := "ArrayMakerModel", name := "lengthOf", desc := "(II)J" } : Jvm.MethodName)) ∈ lw_all := lw_g (lw_at lw_m3 151 rfl) rfl
theorem q659 : (Jvm.Cond.privateMethod ({ cls := "ArrayMakerModel", name := "lengthOf", desc := "(II)J" } : Jvm.MethodName)) ∈ lw_tbl := lw_at lw_m3 152 rfl
theorem q660 : (Jvm.Cond.instanceMethod ({ cls := "ArrayMakerModel", name := "lengthOf", desc := "(II)J" } : Jvm.MethodName)) ∈ lw_all := lw_g (lw_at lw_m3 153 rfl) rfl
theorem q661 : (Jvm.Cond.code ({ cls := "ArrayMakerModel", name := "lengthOf", desc := "(II)J" } : Jvm.MethodName) prog_6_method_13_code (3 : Nat) (Option.some Jvm.ClassFile.FieldType.long)) ∈ lw_all := lw_g (lw_at lw_m3 154 rfl) rfl
theorem q662 : (Jvm.Cond.methodLink "ArrayMakerModel" (111 : Nat) ({ cls := "ArrayMakerModel", name := "newRow", desc := "(I)I" } : Jvm.MethodName)) ∈ lw_all := lw_g (lw_at lw_m3 155 rfl) rfl
theorem q663 : (Jvm.Cond.privateMethod ({ cls := "ArrayMakerModel", name := "newRow", desc := "(I)I" } : Jvm.MethodName)) ∈ lw_tbl := lw_at lw_m3 156 rfl
theorem q664 : (Jvm.Cond.instanceMethod ({ cls := "ArrayMakerModel", name := "newRow", desc := "(I)I" } : Jvm.MethodName)) ∈ lw_all := lw_g (lw_at lw_m3 157 rfl) rfl
theorem q665 : (Jvm.Cond.code ({ cls := "ArrayMakerModel", name := "newRow", desc := "(I)I" } : Jvm.MethodName) prog_6_method_14_code (3 : Nat) (Option.some Jvm.ClassFile.FieldType.int)) ∈ lw_all := lw_g (lw_at lw_m3 158 rfl) rfl
theorem q667 : (Jvm.Cond.instanceMethod ({ cls := "ArrayMakerModel", name := "raw", desc := "(II)I" } : Jvm.MethodName)) ∈ lw_all := lw_g (lw_at lw_m3 160 rfl) rfl
theorem q668 : (Jvm.Cond.selects "ArrayMakerModel" ({ cls := "ArrayMakerModel", name := "raw", desc := "(II)I" } : Jvm.MethodName) ({ cls := "ArrayMakerModel", name := "raw", desc := "(II)I" } : Jvm.MethodName)) ∈ lw_all := lw_g (lw_at lw_m3 161 rfl) rfl
theorem q669 : (Jvm.Cond.code ({ cls := "ArrayMakerModel", name := "raw", desc := "(II)I" } : Jvm.MethodName) prog_6_method_20_code (3 : Nat) (Option.some Jvm.ClassFile.FieldType.int)) ∈ lw_all := lw_g (lw_at lw_m3 162 rfl) rfl
theorem q670 : (Jvm.Cond.constantLong "ArrayMakerModel" (129 : Nat) (3 : Int64)) ∈ lw_all := lw_g (lw_at lw_m3 163 rfl) rfl
theorem q672 : (Jvm.Cond.instanceMethod ({ cls := "ArrayMakerModel", name := "see", desc := "(I)I" } : Jvm.MethodName)) ∈ lw_all := lw_g (lw_at lw_m3 165 rfl) rfl
theorem q673 : (Jvm.Cond.selects "ArrayMakerModel" ({ cls := "ArrayMakerModel", name := "see", desc := "(I)I" } : Jvm.MethodName) ({ cls := "ArrayMakerModel", name := "see", desc := "(I)I" } : Jvm.MethodName)) ∈ lw_all := lw_g (lw_at lw_m3 166 rfl) rfl
theorem q674 : (Jvm.Cond.code ({ cls := "ArrayMakerModel", name := "see", desc := "(I)I" } : Jvm.MethodName) prog_6_method_22_code (4 : Nat) (Option.some Jvm.ClassFile.FieldType.int)) ∈ lw_all := lw_g (lw_at lw_m3 167 rfl) rfl
theorem q675 : (Jvm.Cond.methodLink "ArrayMakerModel" (135 : Nat) ({ cls := "ArrayMakerModel", name := "wants", desc := "(I)I" } : Jvm.MethodName)) ∈ lw_all := lw_g (lw_at lw_m3 168 rfl) rfl
theorem q676 : (Jvm.Cond.privateMethod ({ cls := "ArrayMakerModel", name := "wants", desc := "(I)I" } : Jvm.MethodName)) ∈ lw_tbl := lw_at lw_m3 169 rfl
theorem q677 : (Jvm.Cond.instanceMethod ({ cls := "ArrayMakerModel", name := "wants", desc := "(I)I" } : Jvm.MethodName)) ∈ lw_all := lw_g (lw_at lw_m3 170 rfl) rfl
theorem q678 : (Jvm.Cond.code ({ cls := "ArrayMakerModel", name := "wants", desc := "(I)I" } : Jvm.MethodName) prog_6_method_21_code (2 : Nat) (Option.some Jvm.ClassFile.FieldType.int)) ∈ lw_all := lw_g (lw_at lw_m3 171 rfl) rfl
theorem q679 : (Jvm.Cond.methodLink "ArrayMakerModel" (131 : Nat) ({ cls := "ArrayMakerModel", name := "isArray", desc := "(I)Z" } : Jvm.MethodName)) ∈ lw_all := lw_g (lw_at lw_m3 172 rfl) rfl
theorem q680 : (Jvm.Cond.privateMethod ({ cls := "ArrayMakerModel", name := "isArray", desc := "(I)Z" } : Jvm.MethodName)) ∈ lw_tbl := lw_at lw_m3 173 rfl
theorem q681 : (Jvm.Cond.instanceMethod ({ cls := "ArrayMakerModel", name := "isArray", desc := "(I)Z" } : Jvm.MethodName)) ∈ lw_all := lw_g (lw_at lw_m3 174 rfl) rfl
theorem q682 : (Jvm.Cond.code ({ cls := "ArrayMakerModel", name := "isArray", desc := "(I)Z" } : Jvm.MethodName) prog_6_method_16_code (2 : Nat) (Option.some Jvm.ClassFile.FieldType.boolean)) ∈ lw_all := lw_g (lw_at lw_m3 175 rfl) rfl
theorem q684 : (Jvm.Cond.instanceMethod ({ cls := "ArrayMakerModel", name := "turn", desc := "(I)I" } : Jvm.MethodName)) ∈ lw_all := lw_g (lw_at lw_m3 177 rfl) rfl
theorem q685 : (Jvm.Cond.selects "ArrayMakerModel" ({ cls := "ArrayMakerModel", name := "turn", desc := "(I)I" } : Jvm.MethodName) ({ cls := "ArrayMakerModel", name := "turn", desc := "(I)I" } : Jvm.MethodName)) ∈ lw_all := lw_g (lw_at lw_m3 178 rfl) rfl
theorem q686 : (Jvm.Cond.code ({ cls := "ArrayMakerModel", name := "turn", desc := "(I)I" } : Jvm.MethodName) prog_6_method_24_code (12 : Nat) (Option.some Jvm.ClassFile.FieldType.int)) ∈ lw_all := lw_g (lw_at lw_m3 179 rfl) rfl
theorem q687 : (Jvm.Cond.methodLink "ArrayMakerModel" (138 : Nat) ({ cls := "ArrayMakerModel", name := "copy", desc := "(II)V" } : Jvm.MethodName)) ∈ lw_all := lw_g (lw_at lw_m3 180 rfl) rfl
theorem q688 : (Jvm.Cond.privateMethod ({ cls := "ArrayMakerModel", name := "copy", desc := "(II)V" } : Jvm.MethodName)) ∈ lw_tbl := lw_at lw_m3 181 rfl
theorem q689 : (Jvm.Cond.instanceMethod ({ cls := "ArrayMakerModel", name := "copy", desc := "(II)V" } : Jvm.MethodName)) ∈ lw_all := lw_g (lw_at lw_m3 182 rfl) rfl
theorem q690 : (Jvm.Cond.code ({ cls := "ArrayMakerModel", name := "copy", desc := "(II)V" } : Jvm.MethodName) prog_6_method_23_code (3 : Nat) (Option.none : Option Jvm.ClassFile.FieldType)) ∈ lw_all := lw_g (lw_at lw_m3 183 rfl) rfl
theorem q692 : (Jvm.Cond.instanceMethod ({ cls := "ArrayMakerModel", name := "cut", desc := "(I)I" } : Jvm.MethodName)) ∈ lw_all := lw_g (lw_at lw_m3 185 rfl) rfl
theorem q693 : (Jvm.Cond.selects "ArrayMakerModel" ({ cls := "ArrayMakerModel", name := "cut", desc := "(I)I" } : Jvm.MethodName) ({ cls := "ArrayMakerModel", name := "cut", desc := "(I)I" } : Jvm.MethodName)) ∈ lw_all := lw_g (lw_at lw_m3 186 rfl) rfl
theorem q694 : (Jvm.Cond.code ({ cls := "ArrayMakerModel", name := "cut", desc := "(I)I" } : Jvm.MethodName) prog_6_method_27_code (9 : Nat) (Option.some Jvm.ClassFile.FieldType.int)) ∈ lw_all := lw_g (lw_at lw_m3 187 rfl) rfl
theorem q695 : (Jvm.Cond.methodLink "ArrayMakerModel" (145 : Nat) ({ cls := "ArrayMakerModel", name := "index", desc := "(II)I" } : Jvm.MethodName)) ∈ lw_all := lw_g (lw_at lw_m3 188 rfl) rfl
theorem q696 : (Jvm.Cond.static ({ cls := "ArrayMakerModel", name := "index", desc := "(II)I" } : Jvm.MethodName)) ∈ lw_all := lw_g (lw_at lw_m3 189 rfl) rfl
theorem q697 : (Jvm.Cond.code ({ cls := "ArrayMakerModel", name := "index", desc := "(II)I" } : Jvm.MethodName) prog_6_method_26_code (2 : Nat) (Option.some Jvm.ClassFile.FieldType.int)) ∈ lw_all := lw_g (lw_at lw_m3 190 rfl) rfl
theorem q698 : (Jvm.Cond.methodLink "ArrayMakerModel" (148 : Nat) ({ cls := "ArrayMakerModel", name := "placeOf", desc := "(IIII)I" } : Jvm.MethodName)) ∈ lw_all := lw_g (lw_at lw_m3 191 rfl) rfl
theorem q699 : (Jvm.Cond.privateMethod ({ cls := "ArrayMakerModel", name := "placeOf", desc := "(IIII)I" } : Jvm.MethodName)) ∈ lw_tbl := lw_at lw_m3 192 rfl
theorem q700 : (Jvm.Cond.instanceMethod ({ cls := "ArrayMakerModel", name := "placeOf", desc := "(IIII)I" } : Jvm.MethodName)) ∈ lw_all := lw_g (lw_at lw_m3 193 rfl) rfl
theorem q701 : (Jvm.Cond.code ({ cls := "ArrayMakerModel", name := "placeOf", desc := "(IIII)I" } : Jvm.MethodName) prog_6_method_25_code (9 : Nat) (Option.some Jvm.ClassFile.FieldType.int)) ∈ lw_all := lw_g (lw_at lw_m3 194 rfl) rfl
theorem q702 : (Jvm.Cond.methodLink "ArrayMakerModel" (152 : Nat) ({ cls := "ArrayMakerModel", name := "noItem", desc := "(I)I" } : Jvm.MethodName)) ∈ lw_all := lw_g (lw_at lw_m3 195 rfl) rfl
theorem q703 : (Jvm.Cond.privateMethod ({ cls := "ArrayMakerModel", name := "noItem", desc := "(I)I" } : Jvm.MethodName)) ∈ lw_tbl := lw_at lw_m3 196 rfl
theorem q704 : (Jvm.Cond.instanceMethod ({ cls := "ArrayMakerModel", name := "noItem", desc := "(I)I" } : Jvm.MethodName)) ∈ lw_all := lw_g (lw_at lw_m3 197 rfl) rfl
theorem q705 : (Jvm.Cond.code ({ cls := "ArrayMakerModel", name := "noItem", desc := "(I)I" } : Jvm.MethodName) prog_6_method_7_code (2 : Nat) (Option.some Jvm.ClassFile.FieldType.int)) ∈ lw_all := lw_g (lw_at lw_m3 198 rfl) rfl
theorem q707 : (Jvm.Cond.instanceMethod ({ cls := "ArrayMakerModel", name := "deep", desc := "(I)I" } : Jvm.MethodName)) ∈ lw_all := lw_g (lw_at lw_m3 200 rfl) rfl
theorem q708 : (Jvm.Cond.selects "ArrayMakerModel" ({ cls := "ArrayMakerModel", name := "deep", desc := "(I)I" } : Jvm.MethodName) ({ cls := "ArrayMakerModel", name := "deep", desc := "(I)I" } : Jvm.MethodName)) ∈ lw_all := lw_g (lw_at lw_m3 201 rfl) rfl
theorem q709 : (Jvm.Cond.code ({ cls := "ArrayMakerModel", name := "deep", desc := "(I)I" } : Jvm.MethodName) prog_6_method_28_code (6 : Nat) (Option.some Jvm.ClassFile.FieldType.int)) ∈ lw_all := lw_g (lw_at lw_m3 202 rfl) rfl
theorem q711 : (Jvm.Cond.instanceMethod ({ cls := "ArrayMakerModel", name := "flat", desc := "(I)I" } : Jvm.MethodName)) ∈ lw_all := lw_g (lw_at lw_m3 204 rfl) rfl
theorem q712 : (Jvm.Cond.selects "ArrayMakerModel" ({ cls := "ArrayMakerModel", name := "flat", desc := "(I)I" } : Jvm.MethodName) ({ cls := "ArrayMakerModel", name := "flat", desc := "(I)I" } : Jvm.MethodName)) ∈ lw_all := lw_g (lw_at lw_m3 205 rfl) rfl
theorem q713 : (Jvm.Cond.code ({ cls := "ArrayMakerModel", name := "flat", desc := "(I)I" } : Jvm.MethodName) prog_6_method_30_code (9 : Nat) (Option.some Jvm.ClassFile.FieldType.int)) ∈ lw_all := lw_g (lw_at lw_m3 206 rfl) rfl
theorem q714 : (Jvm.Cond.methodLink "ArrayMakerModel" (155 : Nat) ({ cls := "ArrayMakerModel", name := "tableRows", desc := "(I)I" } : Jvm.MethodName)) ∈ lw_all := lw_g (lw_at lw_m3 207 rfl) rfl
theorem q715 : (Jvm.Cond.privateMethod ({ cls := "ArrayMakerModel", name := "tableRows", desc := "(I)I" } : Jvm.MethodName)) ∈ lw_tbl := lw_at lw_m3 208 rfl
theorem q716 : (Jvm.Cond.instanceMethod ({ cls := "ArrayMakerModel", name := "tableRows", desc := "(I)I" } : Jvm.MethodName)) ∈ lw_all := lw_g (lw_at lw_m3 209 rfl) rfl
theorem q717 : (Jvm.Cond.code ({ cls := "ArrayMakerModel", name := "tableRows", desc := "(I)I" } : Jvm.MethodName) prog_6_method_29_code (2 : Nat) (Option.some Jvm.ClassFile.FieldType.int)) ∈ lw_all := lw_g (lw_at lw_m3 210 rfl) rfl
theorem q719 : (Jvm.Cond.instanceMethod ({ cls := "ArrayMakerModel", name := "ragged", desc := "(III)I" } : Jvm.MethodName)) ∈ lw_all := lw_g (lw_at lw_m3 212 rfl) rfl
theorem q720 : (Jvm.Cond.selects "ArrayMakerModel" ({ cls := "ArrayMakerModel", name := "ragged", desc := "(III)I" } : Jvm.MethodName) ({ cls := "ArrayMakerModel", name := "ragged", desc := "(III)I" } : Jvm.MethodName)) ∈ lw_all := lw_g (lw_at lw_m3 213 rfl) rfl
theorem q721 : (Jvm.Cond.code ({ cls := "ArrayMakerModel", name := "ragged", desc := "(III)I" } : Jvm.MethodName) prog_6_method_33_code (5 : Nat) (Option.some Jvm.ClassFile.FieldType.int)) ∈ lw_all := lw_g (lw_at lw_m3 214 rfl) rfl
theorem q722 : (Jvm.Cond.methodLink "ArrayMakerModel" (158 : Nat) ({ cls := "ArrayMakerModel", name := "wantsRow", desc := "(II)I" } : Jvm.MethodName)) ∈ lw_all := lw_g (lw_at lw_m3 215 rfl) rfl
theorem q723 : (Jvm.Cond.privateMethod ({ cls := "ArrayMakerModel", name := "wantsRow", desc := "(II)I" } : Jvm.MethodName)) ∈ lw_tbl := lw_at lw_m3 216 rfl
theorem q724 : (Jvm.Cond.instanceMethod ({ cls := "ArrayMakerModel", name := "wantsRow", desc := "(II)I" } : Jvm.MethodName)) ∈ lw_all := lw_g (lw_at lw_m3 217 rfl) rfl
theorem q725 : (Jvm.Cond.code ({ cls := "ArrayMakerModel", name := "wantsRow", desc := "(II)I" } : Jvm.MethodName) prog_6_method_31_code (3 : Nat) (Option.some Jvm.ClassFile.FieldType.int)) ∈ lw_all := lw_g (lw_at lw_m3 218 rfl) rfl
theorem q726 : (Jvm.Cond.methodLink "ArrayMakerModel" (161 : Nat) ({ cls := "ArrayMakerModel", name := "slotOf", desc := "(II)I" } : Jvm.MethodName)) ∈ lw_all := lw_g (lw_at lw_m3 219 rfl) rfl
theorem q727 : (Jvm.Cond.privateMethod ({ cls := "ArrayMakerModel", name := "slotOf", desc := "(II)I" } : Jvm.MethodName)) ∈ lw_tbl := lw_at lw_m3 220 rfl
theorem q728 : (Jvm.Cond.instanceMethod ({ cls := "ArrayMakerModel", name := "slotOf", desc := "(II)I" } : Jvm.MethodName)) ∈ lw_all := lw_g (lw_at lw_m3 221 rfl) rfl
theorem q729 : (Jvm.Cond.code ({ cls := "ArrayMakerModel", name := "slotOf", desc := "(II)I" } : Jvm.MethodName) prog_6_method_32_code (3 : Nat) (Option.some Jvm.ClassFile.FieldType.int)) ∈ lw_all := lw_g (lw_at lw_m3 222 rfl) rfl
theorem q731 : (Jvm.Cond.instanceMethod ({ cls := "ArrayMakerModel", name := "without", desc := "(II)I" } : Jvm.MethodName)) ∈ lw_all := lw_g (lw_at lw_m3 224 rfl) rfl
theorem q732 : (Jvm.Cond.selects "ArrayMakerModel" ({ cls := "ArrayMakerModel", name := "without", desc := "(II)I" } : Jvm.MethodName) ({ cls := "ArrayMakerModel", name := "without", desc := "(II)I" } : Jvm.MethodName)) ∈ lw_all := lw_g (lw_at lw_m3 225 rfl) rfl
theorem q733 : (Jvm.Cond.code ({ cls := "ArrayMakerModel", name := "without", desc := "(II)I" } : Jvm.MethodName) prog_6_method_34_code (4 : Nat) (Option.some Jvm.ClassFile.FieldType.int)) ∈ lw_all := lw_g (lw_at lw_m3 226 rfl) rfl
theorem q735 : (Jvm.Cond.instanceMethod ({ cls := "ArrayMakerModel", name := "tie", desc := "(IIII)I" } : Jvm.MethodName)) ∈ lw_all := lw_g (lw_at lw_m3 228 rfl) rfl
theorem q736 : (Jvm.Cond.selects "ArrayMakerModel" ({ cls := "ArrayMakerModel", name := "tie", desc := "(IIII)I" } : Jvm.MethodName) ({ cls := "ArrayMakerModel", name := "tie", desc := "(IIII)I" } : Jvm.MethodName)) ∈ lw_all := lw_g (lw_at lw_m3 229 rfl) rfl
theorem q737 : (Jvm.Cond.code ({ cls := "ArrayMakerModel", name := "tie", desc := "(IIII)I" } : Jvm.MethodName) prog_6_method_35_code (5 : Nat) (Option.some Jvm.ClassFile.FieldType.int)) ∈ lw_all := lw_g (lw_at lw_m3 230 rfl) rfl
theorem q739 : (Jvm.Cond.instanceMethod ({ cls := "ArrayMakerModel", name := "get", desc := "(IIII)J" } : Jvm.MethodName)) ∈ lw_all := lw_g (lw_at lw_m3 232 rfl) rfl
theorem q740 : (Jvm.Cond.selects "ArrayMakerModel" ({ cls := "ArrayMakerModel", name := "get", desc := "(IIII)J" } : Jvm.MethodName) ({ cls := "ArrayMakerModel", name := "get", desc := "(IIII)J" } : Jvm.MethodName)) ∈ lw_all := lw_g (lw_at lw_m3 233 rfl) rfl
theorem q741 : (Jvm.Cond.code ({ cls := "ArrayMakerModel", name := "get", desc := "(IIII)J" } : Jvm.MethodName) prog_6_method_37_code (6 : Nat) (Option.some Jvm.ClassFile.FieldType.long)) ∈ lw_all := lw_g (lw_at lw_m3 234 rfl) rfl
theorem q742 : (Jvm.Cond.methodLink "ArrayMakerModel" (164 : Nat) ({ cls := "ArrayMakerModel", name := "find", desc := "(IIII)I" } : Jvm.MethodName)) ∈ lw_all := lw_g (lw_at lw_m3 235 rfl) rfl
theorem q743 : (Jvm.Cond.privateMethod ({ cls := "ArrayMakerModel", name := "find", desc := "(IIII)I" } : Jvm.MethodName)) ∈ lw_tbl := lw_at lw_m3 236 rfl
theorem q744 : (Jvm.Cond.instanceMethod ({ cls := "ArrayMakerModel", name := "find", desc := "(IIII)I" } : Jvm.MethodName)) ∈ lw_all := lw_g (lw_at lw_m3 237 rfl) rfl
theorem q745 : (Jvm.Cond.code ({ cls := "ArrayMakerModel", name := "find", desc := "(IIII)I" } : Jvm.MethodName) prog_6_method_36_code (9 : Nat) (Option.some Jvm.ClassFile.FieldType.int)) ∈ lw_all := lw_g (lw_at lw_m3 238 rfl) rfl
theorem q747 : (Jvm.Cond.instanceMethod ({ cls := "ArrayMakerModel", name := "put", desc := "(IIIIJ)I" } : Jvm.MethodName)) ∈ lw_all := lw_g (lw_at lw_m4 0 rfl) rfl
theorem q748 : (Jvm.Cond.selects "ArrayMakerModel" ({ cls := "ArrayMakerModel", name := "put", desc := "(IIIIJ)I" } : Jvm.MethodName) ({ cls := "ArrayMakerModel", name := "put", desc := "(IIIIJ)I" } : Jvm.MethodName)) ∈ lw_all := lw_g (lw_at lw_m4 1 rfl) rfl
theorem q749 : (Jvm.Cond.code ({ cls := "ArrayMakerModel", name := "put", desc := "(IIIIJ)I" } : Jvm.MethodName) prog_6_method_39_code (8 : Nat) (Option.some Jvm.ClassFile.FieldType.int)) ∈ lw_all := lw_g (lw_at lw_m4 2 rfl) rfl
theorem q750 : (Jvm.Cond.methodLink "ArrayMakerModel" (171 : Nat) ({ cls := "ArrayMakerModel", name := "lay", desc := "(IIJ)V" } : Jvm.MethodName)) ∈ lw_all := lw_g (lw_at lw_m4 3 rfl) rfl
theorem q751 : (Jvm.Cond.privateMethod ({ cls := "ArrayMakerModel", name := "lay", desc := "(IIJ)V" } : Jvm.MethodName)) ∈ lw_tbl := lw_at lw_m4 4 rfl
theorem q752 : (Jvm.Cond.instanceMethod ({ cls := "ArrayMakerModel", name := "lay", desc := "(IIJ)V" } : Jvm.MethodName)) ∈ lw_all := lw_g (lw_at lw_m4 5 rfl) rfl
theorem q753 : (Jvm.Cond.code ({ cls := "ArrayMakerModel", name := "lay", desc := "(IIJ)V" } : Jvm.MethodName) prog_6_method_38_code (5 : Nat) (Option.none : Option Jvm.ClassFile.FieldType)) ∈ lw_all := lw_g (lw_at lw_m4 6 rfl) rfl
theorem q754 : (Jvm.Cond.methodLink "ArrayMakerModel" (167 : Nat) ({ cls := "ArrayMakerModel", name := "as", desc := "(IJ)J" } : Jvm.MethodName)) ∈ lw_all := lw_g (lw_at lw_m4 7 rfl) rfl
theorem q755 : (Jvm.Cond.static ({ cls := "ArrayMakerModel", name := "as", desc := "(IJ)J" } : Jvm.MethodName)) ∈ lw_all := lw_g (lw_at lw_m4 8 rfl) rfl
theorem q756 : (Jvm.Cond.code ({ cls := "ArrayMakerModel", name := "as", desc := "(IJ)J" } : Jvm.MethodName) prog_6_method_15_code (5 : Nat) (Option.some Jvm.ClassFile.FieldType.long)) ∈ lw_all := lw_g (lw_at lw_m4 9 rfl) rfl
theorem q757 : (Jvm.Cond.constantLong "ArrayMakerModel" (92 : Nat) (255 : Int64)) ∈ lw_all := lw_g (lw_at lw_m4 10 rfl) rfl
theorem q758 : (Jvm.Cond.constantLong "ArrayMakerModel" (94 : Nat) (127 : Int64)) ∈ lw_all := lw_g (lw_at lw_m4 11 rfl) rfl
theorem q759 : (Jvm.Cond.constantLong "ArrayMakerModel" (96 : Nat) (256 : Int64)) ∈ lw_all := lw_g (lw_at lw_m4 12 rfl) rfl
theorem q761 : (Jvm.Cond.instanceMethod ({ cls := "ArrayMakerModel", name := "empty", desc := "(IIII)I" } : Jvm.MethodName)) ∈ lw_all := lw_g (lw_at lw_m4 14 rfl) rfl
theorem q762 : (Jvm.Cond.selects "ArrayMakerModel" ({ cls := "ArrayMakerModel", name := "empty", desc := "(IIII)I" } : Jvm.MethodName) ({ cls := "ArrayMakerModel", name := "empty", desc := "(IIII)I" } : Jvm.MethodName)) ∈ lw_all := lw_g (lw_at lw_m4 15 rfl) rfl
theorem q763 : (Jvm.Cond.code ({ cls := "ArrayMakerModel", name := "empty", desc := "(IIII)I" } : Jvm.MethodName) prog_6_method_40_code (6 : Nat) (Option.some Jvm.ClassFile.FieldType.int)) ∈ lw_all := lw_g (lw_at lw_m4 16 rfl) rfl
theorem q765 : (Jvm.Cond.instanceMethod ({ cls := "ArrayMakerModel", name := "pair", desc := "(IIIJ)I" } : Jvm.MethodName)) ∈ lw_all := lw_g (lw_at lw_m4 18 rfl) rfl
theorem q766 : (Jvm.Cond.selects "ArrayMakerModel" ({ cls := "ArrayMakerModel", name := "pair", desc := "(IIIJ)I" } : Jvm.MethodName) ({ cls := "ArrayMakerModel", name := "pair", desc := "(IIIJ)I" } : Jvm.MethodName)) ∈ lw_all := lw_g (lw_at lw_m4 19 rfl) rfl
theorem q767 : (Jvm.Cond.code ({ cls := "ArrayMakerModel", name := "pair", desc := "(IIIJ)I" } : Jvm.MethodName) prog_6_method_41_code (6 : Nat) (Option.some Jvm.ClassFile.FieldType.int)) ∈ lw_all := lw_g (lw_at lw_m4 20 rfl) rfl
theorem q769 : (Jvm.Cond.instanceMethod ({ cls := "ArrayMakerModel", name := "gather", desc := "(II)I" } : Jvm.MethodName)) ∈ lw_all := lw_g (lw_at lw_m4 22 rfl) rfl
theorem q770 : (Jvm.Cond.selects "ArrayMakerModel" ({ cls := "ArrayMakerModel", name := "gather", desc := "(II)I" } : Jvm.MethodName) ({ cls := "ArrayMakerModel", name := "gather", desc := "(II)I" } : Jvm.MethodName)) ∈ lw_all := lw_g (lw_at lw_m4 23 rfl) rfl
theorem q771 : (Jvm.Cond.code ({ cls := "ArrayMakerModel", name := "gather", desc := "(II)I" } : Jvm.MethodName) prog_6_method_43_code (6 : Nat) (Option.some Jvm.ClassFile.FieldType.int)) ∈ lw_all := lw_g (lw_at lw_m4 24 rfl) rfl
theorem q772 : (Jvm.Cond.constantLong "ArrayMakerModel" (180 : Nat) (5 : Int64)) ∈ lw_all := lw_g (lw_at lw_m4 25 rfl) rfl
theorem q773 : (Jvm.Cond.methodLink "ArrayMakerModel" (182 : Nat) ({ cls := "ArrayMakerModel", name := "joins", desc := "(IIIJ)Z" } : Jvm.MethodName)) ∈ lw_all := lw_g (lw_at lw_m4 26 rfl) rfl
theorem q774 : (Jvm.Cond.privateMethod ({ cls := "ArrayMakerModel", name := "joins", desc := "(IIIJ)Z" } : Jvm.MethodName)) ∈ lw_tbl := lw_at lw_m4 27 rfl
theorem q775 : (Jvm.Cond.instanceMethod ({ cls := "ArrayMakerModel", name := "joins", desc := "(IIIJ)Z" } : Jvm.MethodName)) ∈ lw_all := lw_g (lw_at lw_m4 28 rfl) rfl
theorem q776 : (Jvm.Cond.code ({ cls := "ArrayMakerModel", name := "joins", desc := "(IIIJ)Z" } : Jvm.MethodName) prog_6_method_42_code (10 : Nat) (Option.some Jvm.ClassFile.FieldType.boolean)) ∈ lw_all := lw_g (lw_at lw_m4 29 rfl) rfl
theorem q777 : (Jvm.Cond.constantLong "ArrayMakerModel" (178 : Nat) (-1 : Int64)) ∈ lw_all := lw_g (lw_at lw_m4 30 rfl) rfl
theorem q779 : (Jvm.Cond.instanceMethod ({ cls := "ArrayMakerModel", name := "join", desc := "(III)I" } : Jvm.MethodName)) ∈ lw_all := lw_g (lw_at lw_m4 32 rfl) rfl
theorem q780 : (Jvm.Cond.selects "ArrayMakerModel" ({ cls := "ArrayMakerModel", name := "join", desc := "(III)I" } : Jvm.MethodName) ({ cls := "ArrayMakerModel", name := "join", desc := "(III)I" } : Jvm.MethodName)) ∈ lw_all := lw_g (lw_at lw_m4 33 rfl) rfl
theorem q781 : (Jvm.Cond.code ({ cls := "ArrayMakerModel", name := "join", desc := "(III)I" } : Jvm.MethodName) prog_6_method_44_code (8 : Nat) (Option.some Jvm.ClassFile.FieldType.int)) ∈ lw_all := lw_g (lw_at lw_m4 34 rfl) rfl
theorem q783 : (Jvm.Cond.instanceMethod ({ cls := "ArrayMakerModel", name := "sum", desc := "(I)J" } : Jvm.MethodName)) ∈ lw_all := lw_g (lw_at lw_m4 36 rfl) rfl
theorem q784 : (Jvm.Cond.selects "ArrayMakerModel" ({ cls := "ArrayMakerModel", name := "sum", desc := "(I)J" } : Jvm.MethodName) ({ cls := "ArrayMakerModel", name := "sum", desc := "(I)J" } : Jvm.MethodName)) ∈ lw_all := lw_g (lw_at lw_m4 37 rfl) rfl
theorem q785 : (Jvm.Cond.code ({ cls := "ArrayMakerModel", name := "sum", desc := "(I)J" } : Jvm.MethodName) prog_6_method_46_code (6 : Nat) (Option.some Jvm.ClassFile.FieldType.long)) ∈ lw_all := lw_g (lw_at lw_m4 38 rfl) rfl
theorem q786 : (Jvm.Cond.methodLink "ArrayMakerModel" (186 : Nat) ({ cls := "ArrayMakerModel", name := "sumOf", desc := "(I)J" } : Jvm.MethodName)) ∈ lw_all := lw_g (lw_at lw_m4 39 rfl) rfl
theorem q787 : (Jvm.Cond.privateMethod ({ cls := "ArrayMakerModel", name := "sumOf", desc := "(I)J" } : Jvm.MethodName)) ∈ lw_tbl := lw_at lw_m4 40 rfl
theorem q788 : (Jvm.Cond.instanceMethod ({ cls := "ArrayMakerModel", name := "sumOf", desc := "(I)J" } : Jvm.MethodName)) ∈ lw_all := lw_g (lw_at lw_m4 41 rfl) rfl
theorem q789 : (Jvm.Cond.code ({ cls := "ArrayMakerModel", name := "sumOf", desc := "(I)J" } : Jvm.MethodName) prog_6_method_45_code (5 : Nat) (Option.some Jvm.ClassFile.FieldType.long)) ∈ lw_all := lw_g (lw_at lw_m4 42 rfl) rfl
theorem q791 : (Jvm.Cond.instanceMethod ({ cls := "ArrayMakerModel", name := "mean", desc := "(I)J" } : Jvm.MethodName)) ∈ lw_all := lw_g (lw_at lw_m4 44 rfl) rfl
theorem q792 : (Jvm.Cond.selects "ArrayMakerModel" ({ cls := "ArrayMakerModel", name := "mean", desc := "(I)J" } : Jvm.MethodName) ({ cls := "ArrayMakerModel", name := "mean", desc := "(I)J" } : Jvm.MethodName)) ∈ lw_all := lw_g (lw_at lw_m4 45 rfl) rfl
theorem q793 : (Jvm.Cond.code ({ cls := "ArrayMakerModel", name := "mean", desc := "(I)J" } : Jvm.MethodName) prog_6_method_47_code (3 : Nat) (Option.some Jvm.ClassFile.FieldType.long)) ∈ lw_all := lw_g (lw_at lw_m4 46 rfl) rfl
theorem q795 : (Jvm.Cond.instanceMethod ({ cls := "ArrayMakerModel", name := "about", desc := "(II)I" } : Jvm.MethodName)) ∈ lw_all := lw_g (lw_at lw_m4 48 rfl) rfl
theorem q796 : (Jvm.Cond.selects "ArrayMakerModel" ({ cls := "ArrayMakerModel", name := "about", desc := "(II)I" } : Jvm.MethodName) ({ cls := "ArrayMakerModel", name := "about", desc := "(II)I" } : Jvm.MethodName)) ∈ lw_all := lw_g (lw_at lw_m4 49 rfl) rfl
theorem q797 : (Jvm.Cond.code ({ cls := "ArrayMakerModel", name := "about", desc := "(II)I" } : Jvm.MethodName) prog_6_method_48_code (6 : Nat) (Option.some Jvm.ClassFile.FieldType.int)) ∈ lw_all := lw_g (lw_at lw_m4 50 rfl) rfl
theorem q798 : (Jvm.Cond.constantLong "ArrayMakerModel" (190 : Nat) (8 : Int64)) ∈ lw_all := lw_g (lw_at lw_m4 51 rfl) rfl
theorem q800 : (Jvm.Cond.instanceMethod ({ cls := "ArrayMakerModel", name := "same", desc := "(II)I" } : Jvm.MethodName)) ∈ lw_all := lw_g (lw_at lw_m4 53 rfl) rfl
theorem q801 : (Jvm.Cond.selects "ArrayMakerModel" ({ cls := "ArrayMakerModel", name := "same", desc := "(II)I" } : Jvm.MethodName) ({ cls := "ArrayMakerModel", name := "same", desc := "(II)I" } : Jvm.MethodName)) ∈ lw_all := lw_g (lw_at lw_m4 54 rfl) rfl
theorem q802 : (Jvm.Cond.code ({ cls := "ArrayMakerModel", name := "same", desc := "(II)I" } : Jvm.MethodName) prog_6_method_49_code (5 : Nat) (Option.some Jvm.ClassFile.FieldType.int)) ∈ lw_all := lw_g (lw_at lw_m4 55 rfl) rfl
theorem q804 : (Jvm.Cond.instanceMethod ({ cls := "ArrayMakerModel", name := "compare", desc := "(II)I" } : Jvm.MethodName)) ∈ lw_all := lw_g (lw_at lw_m4 57 rfl) rfl
theorem q805 : (Jvm.Cond.selects "ArrayMakerModel" ({ cls := "ArrayMakerModel", name := "compare", desc := "(II)I" } : Jvm.MethodName) ({ cls := "ArrayMakerModel", name := "compare", desc := "(II)I" } : Jvm.MethodName)) ∈ lw_all := lw_g (lw_at lw_m4 58 rfl) rfl
theorem q806 : (Jvm.Cond.code ({ cls := "ArrayMakerModel", name := "compare", desc := "(II)I" } : Jvm.MethodName) prog_6_method_50_code (10 : Nat) (Option.some Jvm.ClassFile.FieldType.int)) ∈ lw_all := lw_g (lw_at lw_m4 59 rfl) rfl
theorem q808 : (Jvm.Cond.instanceMethod ({ cls := "ArrayMakerModel", name := "clear", desc := "()I" } : Jvm.MethodName)) ∈ lw_all := lw_g (lw_at lw_m4 61 rfl) rfl
theorem q809 : (Jvm.Cond.selects "ArrayMakerModel" ({ cls := "ArrayMakerModel", name := "clear", desc := "()I" } : Jvm.MethodName) ({ cls := "ArrayMakerModel", name := "clear", desc := "()I" } : Jvm.MethodName)) ∈ lw_all := lw_g (lw_at lw_m4 62 rfl) rfl
theorem q810 : (Jvm.Cond.code ({ cls := "ArrayMakerModel", name := "clear", desc := "()I" } : Jvm.MethodName) prog_6_method_51_code (2 : Nat) (Option.some Jvm.ClassFile.FieldType.int)) ∈ lw_all := lw_g (lw_at lw_m4 63 rfl) rfl
theorem in_X3 : ∀ w ∈ wsX30, w ∈ lw_all := lw_in wsX30 [556, 558, 560, 562, 564, 566, 568, 570, 572, 574, 576, 578, 580, 582, 584, 586, 588, 590, 592, 594, 596, 598, 600, 602, 604] (by decide +kernel) (by decide +kernel)
