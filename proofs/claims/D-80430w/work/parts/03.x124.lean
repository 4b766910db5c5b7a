/-! ArrayMaker$Shape -/
set_option maxRecDepth 100000
def RX1 : String := "ArrayMaker$Shape"
def TX1 : u_T := fun k => match k with
  | 0 => ("ArrayMaker$Shape", "many", "I", false)
  | 1 => ("ArrayMaker$Shape", "low", "[I", true)
  | _ => ("ArrayMaker$Shape", "high", "[I", true)
def tyX1 : Nat → FieldType := fun k => match k with
  | 0 => .int
  | 1 => .array .int
  | _ => .array .int
abbrev wsX10 : List Cond := u_ws RX1 TX1 3
theorem nmX1 : ∀ a, a < 3 → ∀ b, b < 3 → a ≠ b → (TX1 a).2.1 ≠ (TX1 b).2.1 := by decide +kernel
theorem tyX1_ok : ∀ k, k < 3 → parseFieldDescriptor (TX1 k).2.2.1 = some (tyX1 k) := by decide +kernel
abbrev cX1_init : ByteArray := prog_4_method_1_code
def yX1_init : MethodName := ⟨RX1, "<init>", "()V"⟩
def dkwX1_init_0 : List UInt8 := [42, 183, 0, 3, 42, 6, 188, 10, 181, 0, 9, 42, 6, 188, 10, 181, 0, 15, 177]
abbrev dktX1_init_0 : List UInt8 := dkwX1_init_0 ++ []
theorem dksX1_init_0 : cX1_init.data.toList.drop 0 = dktX1_init_0 := by decide +kernel
theorem dX1_init_0 : decode cX1_init 0 = .ok (.aload_n 0, 1) := dk_42 (dk_at dksX1_init_0 0 rfl rfl)
theorem dX1_init_1 : decode cX1_init 1 = .ok (.invokespecial 3, 3) := dk_183 0 3 (dk_at dksX1_init_0 1 rfl rfl)
theorem dX1_init_4 : decode cX1_init 4 = .ok (.aload_n 0, 1) := dk_42 (dk_at dksX1_init_0 4 rfl rfl)
theorem dX1_init_5 : decode cX1_init 5 = .ok (.iconst 3, 1) := dk_6 (dk_at dksX1_init_0 5 rfl rfl)
theorem dX1_init_6 : decode cX1_init 6 = .ok (.newarray .int, 2) := dk_188_10 (dk_at dksX1_init_0 6 rfl rfl)
theorem dX1_init_8 : decode cX1_init 8 = .ok (.putfield 9, 3) := dk_181 0 9 (dk_at dksX1_init_0 8 rfl rfl)
theorem dX1_init_11 : decode cX1_init 11 = .ok (.aload_n 0, 1) := dk_42 (dk_at dksX1_init_0 11 rfl rfl)
theorem dX1_init_12 : decode cX1_init 12 = .ok (.iconst 3, 1) := dk_6 (dk_at dksX1_init_0 12 rfl rfl)
theorem dX1_init_13 : decode cX1_init 13 = .ok (.newarray .int, 2) := dk_188_10 (dk_at dksX1_init_0 13 rfl rfl)
theorem dX1_init_15 : decode cX1_init 15 = .ok (.putfield 15, 3) := dk_181 0 15 (dk_at dksX1_init_0 15 rfl rfl)
theorem dX1_init_18 : decode cX1_init 18 = .ok (.return_, 1) := dk_177 (dk_at dksX1_init_0 18 rfl rfl)
abbrev cX1_items : ByteArray := prog_4_method_4_code
def yX1_items : MethodName := ⟨RX1, "items", "()I"⟩
def dkwX1_items_3 : List UInt8 := [167, 0, 5, 31, 136, 172]
abbrev dktX1_items_3 : List UInt8 := dkwX1_items_3 ++ []
def dkwX1_items_2 : List UInt8 := [182, 0, 34, 184, 0, 40, 105, 184, 0, 40, 64, 132, 4, 1, 167, 255, 202, 29, 153, 0, 7, 3]
abbrev dktX1_items_2 : List UInt8 := dkwX1_items_2 ++ dktX1_items_3
def dkwX1_items_1 : List UInt8 := [182, 0, 34, 9, 148, 154, 0, 7, 4, 167, 0, 4, 3, 62, 20, 0, 38, 31, 20, 0, 38, 42, 21, 4]
abbrev dktX1_items_1 : List UInt8 := dkwX1_items_1 ++ dktX1_items_2
def dkwX1_items_0 : List UInt8 := [10, 64, 3, 62, 3, 54, 4, 21, 4, 42, 180, 0, 18, 162, 0, 51, 29, 154, 0, 14, 42, 21, 4]
abbrev dktX1_items_0 : List UInt8 := dkwX1_items_0 ++ dktX1_items_1
theorem dksX1_items_0 : cX1_items.data.toList.drop 0 = dktX1_items_0 := by decide +kernel
theorem dksX1_items_1 : cX1_items.data.toList.drop 23 = dktX1_items_1 := dk_seg dksX1_items_0 23 rfl rfl
theorem dksX1_items_2 : cX1_items.data.toList.drop 47 = dktX1_items_2 := dk_seg dksX1_items_1 24 rfl rfl
theorem dksX1_items_3 : cX1_items.data.toList.drop 69 = dktX1_items_3 := dk_seg dksX1_items_2 22 rfl rfl
theorem dX1_items_0 : decode cX1_items 0 = .ok (.lconst 1, 1) := dk_10 (dk_at dksX1_items_0 0 rfl rfl)
theorem dX1_items_1 : decode cX1_items 1 = .ok (.lstore_n 1, 1) := dk_64 (dk_at dksX1_items_0 1 rfl rfl)
theorem dX1_items_2 : decode cX1_items 2 = .ok (.iconst 0, 1) := dk_3 (dk_at dksX1_items_0 2 rfl rfl)
theorem dX1_items_3 : decode cX1_items 3 = .ok (.istore_n 3, 1) := dk_62 (dk_at dksX1_items_0 3 rfl rfl)
theorem dX1_items_4 : decode cX1_items 4 = .ok (.iconst 0, 1) := dk_3 (dk_at dksX1_items_0 4 rfl rfl)
theorem dX1_items_5 : decode cX1_items 5 = .ok (.istore 4, 2) := dk_54 4 (dk_at dksX1_items_0 5 rfl rfl)
theorem dX1_items_7 : decode cX1_items 7 = .ok (.iload 4, 2) := dk_21 4 (dk_at dksX1_items_0 7 rfl rfl)
theorem dX1_items_9 : decode cX1_items 9 = .ok (.aload_n 0, 1) := dk_42 (dk_at dksX1_items_0 9 rfl rfl)
theorem dX1_items_10 : decode cX1_items 10 = .ok (.getfield 18, 3) := dk_180 0 18 (dk_at dksX1_items_0 10 rfl rfl)
theorem dX1_items_13 : decode cX1_items 13 = .ok (.if_icmp .ge 51, 3) := dk_162 0 51 (dk_at dksX1_items_0 13 rfl rfl)
theorem dX1_items_16 : decode cX1_items 16 = .ok (.iload_n 3, 1) := dk_29 (dk_at dksX1_items_0 16 rfl rfl)
theorem dX1_items_17 : decode cX1_items 17 = .ok (.ifCond .ne 14, 3) := dk_154 0 14 (dk_at dksX1_items_0 17 rfl rfl)
theorem dX1_items_20 : decode cX1_items 20 = .ok (.aload_n 0, 1) := dk_42 (dk_at dksX1_items_0 20 rfl rfl)
theorem dX1_items_21 : decode cX1_items 21 = .ok (.iload 4, 2) := dk_21 4 (dk_at dksX1_items_0 21 rfl rfl)
theorem dX1_items_23 : decode cX1_items 23 = .ok (.invokevirtual 34, 3) := dk_182 0 34 (dk_at dksX1_items_1 0 rfl rfl)
theorem dX1_items_26 : decode cX1_items 26 = .ok (.lconst 0, 1) := dk_9 (dk_at dksX1_items_1 3 rfl rfl)
theorem dX1_items_27 : decode cX1_items 27 = .ok (.lcmp, 1) := dk_148 (dk_at dksX1_items_1 4 rfl rfl)
theorem dX1_items_28 : decode cX1_items 28 = .ok (.ifCond .ne 7, 3) := dk_154 0 7 (dk_at dksX1_items_1 5 rfl rfl)
theorem dX1_items_31 : decode cX1_items 31 = .ok (.iconst 1, 1) := dk_4 (dk_at dksX1_items_1 8 rfl rfl)
theorem dX1_items_32 : decode cX1_items 32 = .ok (.goto 4, 3) := dk_167 0 4 (dk_at dksX1_items_1 9 rfl rfl)
theorem dX1_items_35 : decode cX1_items 35 = .ok (.iconst 0, 1) := dk_3 (dk_at dksX1_items_1 12 rfl rfl)
theorem dX1_items_36 : decode cX1_items 36 = .ok (.istore_n 3, 1) := dk_62 (dk_at dksX1_items_1 13 rfl rfl)
theorem dX1_items_37 : decode cX1_items 37 = .ok (.ldc2_w 38, 3) := dk_20 0 38 (dk_at dksX1_items_1 14 rfl rfl)
theorem dX1_items_40 : decode cX1_items 40 = .ok (.lload_n 1, 1) := dk_31 (dk_at dksX1_items_1 17 rfl rfl)
theorem dX1_items_41 : decode cX1_items 41 = .ok (.ldc2_w 38, 3) := dk_20 0 38 (dk_at dksX1_items_1 18 rfl rfl)
theorem dX1_items_44 : decode cX1_items 44 = .ok (.aload_n 0, 1) := dk_42 (dk_at dksX1_items_1 21 rfl rfl)
theorem dX1_items_45 : decode cX1_items 45 = .ok (.iload 4, 2) := dk_21 4 (dk_at dksX1_items_1 22 rfl rfl)
theorem dX1_items_47 : decode cX1_items 47 = .ok (.invokevirtual 34, 3) := dk_182 0 34 (dk_at dksX1_items_2 0 rfl rfl)
theorem dX1_items_50 : decode cX1_items 50 = .ok (.invokestatic 40, 3) := dk_184 0 40 (dk_at dksX1_items_2 3 rfl rfl)
theorem dX1_items_53 : decode cX1_items 53 = .ok (.lmul, 1) := dk_105 (dk_at dksX1_items_2 6 rfl rfl)
theorem dX1_items_54 : decode cX1_items 54 = .ok (.invokestatic 40, 3) := dk_184 0 40 (dk_at dksX1_items_2 7 rfl rfl)
theorem dX1_items_57 : decode cX1_items 57 = .ok (.lstore_n 1, 1) := dk_64 (dk_at dksX1_items_2 10 rfl rfl)
theorem dX1_items_58 : decode cX1_items 58 = .ok (.iinc 4 1, 3) := dk_132 4 1 (dk_at dksX1_items_2 11 rfl rfl)
theorem dX1_items_61 : decode cX1_items 61 = .ok (.goto (-54), 3) := dk_167 255 202 (dk_at dksX1_items_2 14 rfl rfl)
theorem dX1_items_64 : decode cX1_items 64 = .ok (.iload_n 3, 1) := dk_29 (dk_at dksX1_items_2 17 rfl rfl)
theorem dX1_items_65 : decode cX1_items 65 = .ok (.ifCond .eq 7, 3) := dk_153 0 7 (dk_at dksX1_items_2 18 rfl rfl)
theorem dX1_items_68 : decode cX1_items 68 = .ok (.iconst 0, 1) := dk_3 (dk_at dksX1_items_2 21 rfl rfl)
theorem dX1_items_69 : decode cX1_items 69 = .ok (.goto 5, 3) := dk_167 0 5 (dk_at dksX1_items_3 0 rfl rfl)
theorem dX1_items_72 : decode cX1_items 72 = .ok (.lload_n 1, 1) := dk_31 (dk_at dksX1_items_3 3 rfl rfl)
theorem dX1_items_73 : decode cX1_items 73 = .ok (.l2i, 1) := dk_136 (dk_at dksX1_items_3 4 rfl rfl)
theorem dX1_items_74 : decode cX1_items 74 = .ok (.ireturn, 1) := dk_172 (dk_at dksX1_items_3 5 rfl rfl)
abbrev cX1_length : ByteArray := prog_4_method_3_code
def yX1_length : MethodName := ⟨RX1, "length", "(I)J"⟩
def dkwX1_length_0 : List UInt8 := [9, 42, 180, 0, 15, 27, 46, 133, 42, 180, 0, 9, 27, 46, 133, 101, 10, 97, 184, 0, 28, 173]
abbrev dktX1_length_0 : List UInt8 := dkwX1_length_0 ++ []
theorem dksX1_length_0 : cX1_length.data.toList.drop 0 = dktX1_length_0 := by decide +kernel
theorem dX1_length_0 : decode cX1_length 0 = .ok (.lconst 0, 1) := dk_9 (dk_at dksX1_length_0 0 rfl rfl)
theorem dX1_length_1 : decode cX1_length 1 = .ok (.aload_n 0, 1) := dk_42 (dk_at dksX1_length_0 1 rfl rfl)
theorem dX1_length_2 : decode cX1_length 2 = .ok (.getfield 15, 3) := dk_180 0 15 (dk_at dksX1_length_0 2 rfl rfl)
theorem dX1_length_5 : decode cX1_length 5 = .ok (.iload_n 1, 1) := dk_27 (dk_at dksX1_length_0 5 rfl rfl)
theorem dX1_length_6 : decode cX1_length 6 = .ok (.iaload, 1) := dk_46 (dk_at dksX1_length_0 6 rfl rfl)
theorem dX1_length_7 : decode cX1_length 7 = .ok (.i2l, 1) := dk_133 (dk_at dksX1_length_0 7 rfl rfl)
theorem dX1_length_8 : decode cX1_length 8 = .ok (.aload_n 0, 1) := dk_42 (dk_at dksX1_length_0 8 rfl rfl)
theorem dX1_length_9 : decode cX1_length 9 = .ok (.getfield 9, 3) := dk_180 0 9 (dk_at dksX1_length_0 9 rfl rfl)
theorem dX1_length_12 : decode cX1_length 12 = .ok (.iload_n 1, 1) := dk_27 (dk_at dksX1_length_0 12 rfl rfl)
theorem dX1_length_13 : decode cX1_length 13 = .ok (.iaload, 1) := dk_46 (dk_at dksX1_length_0 13 rfl rfl)
theorem dX1_length_14 : decode cX1_length 14 = .ok (.i2l, 1) := dk_133 (dk_at dksX1_length_0 14 rfl rfl)
theorem dX1_length_15 : decode cX1_length 15 = .ok (.lsub, 1) := dk_101 (dk_at dksX1_length_0 15 rfl rfl)
theorem dX1_length_16 : decode cX1_length 16 = .ok (.lconst 1, 1) := dk_10 (dk_at dksX1_length_0 16 rfl rfl)
theorem dX1_length_17 : decode cX1_length 17 = .ok (.ladd, 1) := dk_97 (dk_at dksX1_length_0 17 rfl rfl)
theorem dX1_length_18 : decode cX1_length 18 = .ok (.invokestatic 28, 3) := dk_184 0 28 (dk_at dksX1_length_0 18 rfl rfl)
theorem dX1_length_21 : decode cX1_length 21 = .ok (.lreturn, 1) := dk_173 (dk_at dksX1_length_0 21 rfl rfl)
abbrev cX1_set : ByteArray := prog_4_method_2_code
def yX1_set : MethodName := ⟨RX1, "set", "(LArrayMaker$Shape;)V"⟩
def dkwX1_set_1 : List UInt8 := [180, 0, 15, 3, 42, 180, 0, 15, 3, 6, 184, 0, 22, 177]
abbrev dktX1_set_1 : List UInt8 := dkwX1_set_1 ++ []
def dkwX1_set_0 : List UInt8 := [42, 43, 180, 0, 18, 181, 0, 18, 43, 180, 0, 9, 3, 42, 180, 0, 9, 3, 6, 184, 0, 22, 43]
abbrev dktX1_set_0 : List UInt8 := dkwX1_set_0 ++ dktX1_set_1
theorem dksX1_set_0 : cX1_set.data.toList.drop 0 = dktX1_set_0 := by decide +kernel
theorem dksX1_set_1 : cX1_set.data.toList.drop 23 = dktX1_set_1 := dk_seg dksX1_set_0 23 rfl rfl
theorem dX1_set_0 : decode cX1_set 0 = .ok (.aload_n 0, 1) := dk_42 (dk_at dksX1_set_0 0 rfl rfl)
theorem dX1_set_1 : decode cX1_set 1 = .ok (.aload_n 1, 1) := dk_43 (dk_at dksX1_set_0 1 rfl rfl)
theorem dX1_set_2 : decode cX1_set 2 = .ok (.getfield 18, 3) := dk_180 0 18 (dk_at dksX1_set_0 2 rfl rfl)
theorem dX1_set_5 : decode cX1_set 5 = .ok (.putfield 18, 3) := dk_181 0 18 (dk_at dksX1_set_0 5 rfl rfl)
theorem dX1_set_8 : decode cX1_set 8 = .ok (.aload_n 1, 1) := dk_43 (dk_at dksX1_set_0 8 rfl rfl)
theorem dX1_set_9 : decode cX1_set 9 = .ok (.getfield 9, 3) := dk_180 0 9 (dk_at dksX1_set_0 9 rfl rfl)
theorem dX1_set_12 : decode cX1_set 12 = .ok (.iconst 0, 1) := dk_3 (dk_at dksX1_set_0 12 rfl rfl)
theorem dX1_set_13 : decode cX1_set 13 = .ok (.aload_n 0, 1) := dk_42 (dk_at dksX1_set_0 13 rfl rfl)
theorem dX1_set_14 : decode cX1_set 14 = .ok (.getfield 9, 3) := dk_180 0 9 (dk_at dksX1_set_0 14 rfl rfl)
theorem dX1_set_17 : decode cX1_set 17 = .ok (.iconst 0, 1) := dk_3 (dk_at dksX1_set_0 17 rfl rfl)
theorem dX1_set_18 : decode cX1_set 18 = .ok (.iconst 3, 1) := dk_6 (dk_at dksX1_set_0 18 rfl rfl)
theorem dX1_set_19 : decode cX1_set 19 = .ok (.invokestatic 22, 3) := dk_184 0 22 (dk_at dksX1_set_0 19 rfl rfl)
theorem dX1_set_22 : decode cX1_set 22 = .ok (.aload_n 1, 1) := dk_43 (dk_at dksX1_set_0 22 rfl rfl)
theorem dX1_set_23 : decode cX1_set 23 = .ok (.getfield 15, 3) := dk_180 0 15 (dk_at dksX1_set_1 0 rfl rfl)
theorem dX1_set_26 : decode cX1_set 26 = .ok (.iconst 0, 1) := dk_3 (dk_at dksX1_set_1 3 rfl rfl)
theorem dX1_set_27 : decode cX1_set 27 = .ok (.aload_n 0, 1) := dk_42 (dk_at dksX1_set_1 4 rfl rfl)
theorem dX1_set_28 : decode cX1_set 28 = .ok (.getfield 15, 3) := dk_180 0 15 (dk_at dksX1_set_1 5 rfl rfl)
theorem dX1_set_31 : decode cX1_set 31 = .ok (.iconst 0, 1) := dk_3 (dk_at dksX1_set_1 8 rfl rfl)
theorem dX1_set_32 : decode cX1_set 32 = .ok (.iconst 3, 1) := dk_6 (dk_at dksX1_set_1 9 rfl rfl)
theorem dX1_set_33 : decode cX1_set 33 = .ok (.invokestatic 22, 3) := dk_184 0 22 (dk_at dksX1_set_1 10 rfl rfl)
theorem dX1_set_36 : decode cX1_set 36 = .ok (.return_, 1) := dk_177 (dk_at dksX1_set_1 13 rfl rfl)
abbrev cX1_first : ByteArray := prog_4_method_8_code
def yX1_first : MethodName := ⟨RX1, "first", "([I)V"⟩
def dkwX1_first_0 : List UInt8 := [42, 180, 0, 9, 3, 43, 3, 6, 184, 0, 22, 177]
abbrev dktX1_first_0 : List UInt8 := dkwX1_first_0 ++ []
theorem dksX1_first_0 : cX1_first.data.toList.drop 0 = dktX1_first_0 := by decide +kernel
theorem dX1_first_0 : decode cX1_first 0 = .ok (.aload_n 0, 1) := dk_42 (dk_at dksX1_first_0 0 rfl rfl)
theorem dX1_first_1 : decode cX1_first 1 = .ok (.getfield 9, 3) := dk_180 0 9 (dk_at dksX1_first_0 1 rfl rfl)
theorem dX1_first_4 : decode cX1_first 4 = .ok (.iconst 0, 1) := dk_3 (dk_at dksX1_first_0 4 rfl rfl)
theorem dX1_first_5 : decode cX1_first 5 = .ok (.aload_n 1, 1) := dk_43 (dk_at dksX1_first_0 5 rfl rfl)
theorem dX1_first_6 : decode cX1_first 6 = .ok (.iconst 0, 1) := dk_3 (dk_at dksX1_first_0 6 rfl rfl)
theorem dX1_first_7 : decode cX1_first 7 = .ok (.iconst 3, 1) := dk_6 (dk_at dksX1_first_0 7 rfl rfl)
theorem dX1_first_8 : decode cX1_first 8 = .ok (.invokestatic 22, 3) := dk_184 0 22 (dk_at dksX1_first_0 8 rfl rfl)
theorem dX1_first_11 : decode cX1_first 11 = .ok (.return_, 1) := dk_177 (dk_at dksX1_first_0 11 rfl rfl)
abbrev cX1_place : ByteArray := prog_4_method_7_code
def yX1_place : MethodName := ⟨RX1, "place", "([I)I"⟩
def dkwX1_place_1 : List UInt8 := [21, 4, 46, 133, 97, 42, 180, 0, 9, 21, 4, 46, 133, 101, 65, 132, 4, 1, 167, 255, 220, 32, 136, 172]
abbrev dktX1_place_1 : List UInt8 := dkwX1_place_1 ++ []
def dkwX1_place_0 : List UInt8 := [9, 65, 3, 54, 4, 21, 4, 42, 180, 0, 18, 162, 0, 33, 32, 42, 21, 4, 182, 0, 34, 105, 43]
abbrev dktX1_place_0 : List UInt8 := dkwX1_place_0 ++ dktX1_place_1
theorem dksX1_place_0 : cX1_place.data.toList.drop 0 = dktX1_place_0 := by decide +kernel
theorem dksX1_place_1 : cX1_place.data.toList.drop 23 = dktX1_place_1 := dk_seg dksX1_place_0 23 rfl rfl
theorem dX1_place_0 : decode cX1_place 0 = .ok (.lconst 0, 1) := dk_9 (dk_at dksX1_place_0 0 rfl rfl)
theorem dX1_place_1 : decode cX1_place 1 = .ok (.lstore_n 2, 1) := dk_65 (dk_at dksX1_place_0 1 rfl rfl)
theorem dX1_place_2 : decode cX1_place 2 = .ok (.iconst 0, 1) := dk_3 (dk_at dksX1_place_0 2 rfl rfl)
theorem dX1_place_3 : decode cX1_place 3 = .ok (.istore 4, 2) := dk_54 4 (dk_at dksX1_place_0 3 rfl rfl)
theorem dX1_place_5 : decode cX1_place 5 = .ok (.iload 4, 2) := dk_21 4 (dk_at dksX1_place_0 5 rfl rfl)
theorem dX1_place_7 : decode cX1_place 7 = .ok (.aload_n 0, 1) := dk_42 (dk_at dksX1_place_0 7 rfl rfl)
theorem dX1_place_8 : decode cX1_place 8 = .ok (.getfield 18, 3) := dk_180 0 18 (dk_at dksX1_place_0 8 rfl rfl)
theorem dX1_place_11 : decode cX1_place 11 = .ok (.if_icmp .ge 33, 3) := dk_162 0 33 (dk_at dksX1_place_0 11 rfl rfl)
theorem dX1_place_14 : decode cX1_place 14 = .ok (.lload_n 2, 1) := dk_32 (dk_at dksX1_place_0 14 rfl rfl)
theorem dX1_place_15 : decode cX1_place 15 = .ok (.aload_n 0, 1) := dk_42 (dk_at dksX1_place_0 15 rfl rfl)
theorem dX1_place_16 : decode cX1_place 16 = .ok (.iload 4, 2) := dk_21 4 (dk_at dksX1_place_0 16 rfl rfl)
theorem dX1_place_18 : decode cX1_place 18 = .ok (.invokevirtual 34, 3) := dk_182 0 34 (dk_at dksX1_place_0 18 rfl rfl)
theorem dX1_place_21 : decode cX1_place 21 = .ok (.lmul, 1) := dk_105 (dk_at dksX1_place_0 21 rfl rfl)
theorem dX1_place_22 : decode cX1_place 22 = .ok (.aload_n 1, 1) := dk_43 (dk_at dksX1_place_0 22 rfl rfl)
theorem dX1_place_23 : decode cX1_place 23 = .ok (.iload 4, 2) := dk_21 4 (dk_at dksX1_place_1 0 rfl rfl)
theorem dX1_place_25 : decode cX1_place 25 = .ok (.iaload, 1) := dk_46 (dk_at dksX1_place_1 2 rfl rfl)
theorem dX1_place_26 : decode cX1_place 26 = .ok (.i2l, 1) := dk_133 (dk_at dksX1_place_1 3 rfl rfl)
theorem dX1_place_27 : decode cX1_place 27 = .ok (.ladd, 1) := dk_97 (dk_at dksX1_place_1 4 rfl rfl)
theorem dX1_place_28 : decode cX1_place 28 = .ok (.aload_n 0, 1) := dk_42 (dk_at dksX1_place_1 5 rfl rfl)
theorem dX1_place_29 : decode cX1_place 29 = .ok (.getfield 9, 3) := dk_180 0 9 (dk_at dksX1_place_1 6 rfl rfl)
theorem dX1_place_32 : decode cX1_place 32 = .ok (.iload 4, 2) := dk_21 4 (dk_at dksX1_place_1 9 rfl rfl)
theorem dX1_place_34 : decode cX1_place 34 = .ok (.iaload, 1) := dk_46 (dk_at dksX1_place_1 11 rfl rfl)
theorem dX1_place_35 : decode cX1_place 35 = .ok (.i2l, 1) := dk_133 (dk_at dksX1_place_1 12 rfl rfl)
theorem dX1_place_36 : decode cX1_place 36 = .ok (.lsub, 1) := dk_101 (dk_at dksX1_place_1 13 rfl rfl)
theorem dX1_place_37 : decode cX1_place 37 = .ok (.lstore_n 2, 1) := dk_65 (dk_at dksX1_place_1 14 rfl rfl)
theorem dX1_place_38 : decode cX1_place 38 = .ok (.iinc 4 1, 3) := dk_132 4 1 (dk_at dksX1_place_1 15 rfl rfl)
theorem dX1_place_41 : decode cX1_place 41 = .ok (.goto (-36), 3) := dk_167 255 220 (dk_at dksX1_place_1 18 rfl rfl)
theorem dX1_place_44 : decode cX1_place 44 = .ok (.lload_n 2, 1) := dk_32 (dk_at dksX1_place_1 21 rfl rfl)
theorem dX1_place_45 : decode cX1_place 45 = .ok (.l2i, 1) := dk_136 (dk_at dksX1_place_1 22 rfl rfl)
theorem dX1_place_46 : decode cX1_place 46 = .ok (.ireturn, 1) := dk_172 (dk_at dksX1_place_1 23 rfl rfl)
abbrev cX1_next : ByteArray := prog_4_method_9_code
def yX1_next : MethodName := ⟨RX1, "next", "([I)V"⟩
def dkwX1_next_1 : List UInt8 := [28, 42, 180, 0, 9, 28, 46, 79, 132, 2, 255, 167, 255, 228, 43, 28, 92, 46, 4, 96, 79, 177]
abbrev dktX1_next_1 : List UInt8 := dkwX1_next_1 ++ []
def dkwX1_next_0 : List UInt8 := [42, 180, 0, 18, 4, 100, 61, 28, 158, 0, 30, 43, 28, 46, 42, 180, 0, 15, 28, 46, 160, 0, 18, 43]
abbrev dktX1_next_0 : List UInt8 := dkwX1_next_0 ++ dktX1_next_1
theorem dksX1_next_0 : cX1_next.data.toList.drop 0 = dktX1_next_0 := by decide +kernel
theorem dksX1_next_1 : cX1_next.data.toList.drop 24 = dktX1_next_1 := dk_seg dksX1_next_0 24 rfl rfl
theorem dX1_next_0 : decode cX1_next 0 = .ok (.aload_n 0, 1) := dk_42 (dk_at dksX1_next_0 0 rfl rfl)
theorem dX1_next_1 : decode cX1_next 1 = .ok (.getfield 18, 3) := dk_180 0 18 (dk_at dksX1_next_0 1 rfl rfl)
theorem dX1_next_4 : decode cX1_next 4 = .ok (.iconst 1, 1) := dk_4 (dk_at dksX1_next_0 4 rfl rfl)
theorem dX1_next_5 : decode cX1_next 5 = .ok (.isub, 1) := dk_100 (dk_at dksX1_next_0 5 rfl rfl)
theorem dX1_next_6 : decode cX1_next 6 = .ok (.istore_n 2, 1) := dk_61 (dk_at dksX1_next_0 6 rfl rfl)
theorem dX1_next_7 : decode cX1_next 7 = .ok (.iload_n 2, 1) := dk_28 (dk_at dksX1_next_0 7 rfl rfl)
theorem dX1_next_8 : decode cX1_next 8 = .ok (.ifCond .le 30, 3) := dk_158 0 30 (dk_at dksX1_next_0 8 rfl rfl)
theorem dX1_next_11 : decode cX1_next 11 = .ok (.aload_n 1, 1) := dk_43 (dk_at dksX1_next_0 11 rfl rfl)
theorem dX1_next_12 : decode cX1_next 12 = .ok (.iload_n 2, 1) := dk_28 (dk_at dksX1_next_0 12 rfl rfl)
theorem dX1_next_13 : decode cX1_next 13 = .ok (.iaload, 1) := dk_46 (dk_at dksX1_next_0 13 rfl rfl)
theorem dX1_next_14 : decode cX1_next 14 = .ok (.aload_n 0, 1) := dk_42 (dk_at dksX1_next_0 14 rfl rfl)
theorem dX1_next_15 : decode cX1_next 15 = .ok (.getfield 15, 3) := dk_180 0 15 (dk_at dksX1_next_0 15 rfl rfl)
theorem dX1_next_18 : decode cX1_next 18 = .ok (.iload_n 2, 1) := dk_28 (dk_at dksX1_next_0 18 rfl rfl)
theorem dX1_next_19 : decode cX1_next 19 = .ok (.iaload, 1) := dk_46 (dk_at dksX1_next_0 19 rfl rfl)
theorem dX1_next_20 : decode cX1_next 20 = .ok (.if_icmp .ne 18, 3) := dk_160 0 18 (dk_at dksX1_next_0 20 rfl rfl)
theorem dX1_next_23 : decode cX1_next 23 = .ok (.aload_n 1, 1) := dk_43 (dk_at dksX1_next_0 23 rfl rfl)
theorem dX1_next_24 : decode cX1_next 24 = .ok (.iload_n 2, 1) := dk_28 (dk_at dksX1_next_1 0 rfl rfl)
theorem dX1_next_25 : decode cX1_next 25 = .ok (.aload_n 0, 1) := dk_42 (dk_at dksX1_next_1 1 rfl rfl)
theorem dX1_next_26 : decode cX1_next 26 = .ok (.getfield 9, 3) := dk_180 0 9 (dk_at dksX1_next_1 2 rfl rfl)
theorem dX1_next_29 : decode cX1_next 29 = .ok (.iload_n 2, 1) := dk_28 (dk_at dksX1_next_1 5 rfl rfl)
theorem dX1_next_30 : decode cX1_next 30 = .ok (.iaload, 1) := dk_46 (dk_at dksX1_next_1 6 rfl rfl)
theorem dX1_next_31 : decode cX1_next 31 = .ok (.iastore, 1) := dk_79 (dk_at dksX1_next_1 7 rfl rfl)
theorem dX1_next_32 : decode cX1_next 32 = .ok (.iinc 2 (-1), 3) := dk_132 2 255 (dk_at dksX1_next_1 8 rfl rfl)
theorem dX1_next_35 : decode cX1_next 35 = .ok (.goto (-28), 3) := dk_167 255 228 (dk_at dksX1_next_1 11 rfl rfl)
theorem dX1_next_38 : decode cX1_next 38 = .ok (.aload_n 1, 1) := dk_43 (dk_at dksX1_next_1 14 rfl rfl)
theorem dX1_next_39 : decode cX1_next 39 = .ok (.iload_n 2, 1) := dk_28 (dk_at dksX1_next_1 15 rfl rfl)
theorem dX1_next_40 : decode cX1_next 40 = .ok (.dup2, 1) := dk_92 (dk_at dksX1_next_1 16 rfl rfl)
theorem dX1_next_41 : decode cX1_next 41 = .ok (.iaload, 1) := dk_46 (dk_at dksX1_next_1 17 rfl rfl)
theorem dX1_next_42 : decode cX1_next 42 = .ok (.iconst 1, 1) := dk_4 (dk_at dksX1_next_1 18 rfl rfl)
theorem dX1_next_43 : decode cX1_next 43 = .ok (.iadd, 1) := dk_96 (dk_at dksX1_next_1 19 rfl rfl)
theorem dX1_next_44 : decode cX1_next 44 = .ok (.iastore, 1) := dk_79 (dk_at dksX1_next_1 20 rfl rfl)
theorem dX1_next_45 : decode cX1_next 45 = .ok (.return_, 1) := dk_177 (dk_at dksX1_next_1 21 rfl rfl)
abbrev cX1_beyond : ByteArray := prog_4_method_6_code
def yX1_beyond : MethodName := ⟨RX1, "beyond", "([I)I"⟩
def dkwX1_beyond_1 : List UInt8 := [167, 255, 234, 28, 42, 180, 0, 18, 162, 0, 7, 28, 167, 0, 4, 2, 172]
abbrev dktX1_beyond_1 : List UInt8 := dkwX1_beyond_1 ++ []
def dkwX1_beyond_0 : List UInt8 := [3, 61, 28, 42, 180, 0, 18, 162, 0, 20, 42, 28, 43, 28, 46, 182, 0, 43, 153, 0, 9, 132, 2, 1]
abbrev dktX1_beyond_0 : List UInt8 := dkwX1_beyond_0 ++ dktX1_beyond_1
theorem dksX1_beyond_0 : cX1_beyond.data.toList.drop 0 = dktX1_beyond_0 := by decide +kernel
theorem dksX1_beyond_1 : cX1_beyond.data.toList.drop 24 = dktX1_beyond_1 := dk_seg dksX1_beyond_0 24 rfl rfl
theorem dX1_beyond_0 : decode cX1_beyond 0 = .ok (.iconst 0, 1) := dk_3 (dk_at dksX1_beyond_0 0 rfl rfl)
theorem dX1_beyond_1 : decode cX1_beyond 1 = .ok (.istore_n 2, 1) := dk_61 (dk_at dksX1_beyond_0 1 rfl rfl)
theorem dX1_beyond_2 : decode cX1_beyond 2 = .ok (.iload_n 2, 1) := dk_28 (dk_at dksX1_beyond_0 2 rfl rfl)
theorem dX1_beyond_3 : decode cX1_beyond 3 = .ok (.aload_n 0, 1) := dk_42 (dk_at dksX1_beyond_0 3 rfl rfl)
theorem dX1_beyond_4 : decode cX1_beyond 4 = .ok (.getfield 18, 3) := dk_180 0 18 (dk_at dksX1_beyond_0 4 rfl rfl)
theorem dX1_beyond_7 : decode cX1_beyond 7 = .ok (.if_icmp .ge 20, 3) := dk_162 0 20 (dk_at dksX1_beyond_0 7 rfl rfl)
theorem dX1_beyond_10 : decode cX1_beyond 10 = .ok (.aload_n 0, 1) := dk_42 (dk_at dksX1_beyond_0 10 rfl rfl)
theorem dX1_beyond_11 : decode cX1_beyond 11 = .ok (.iload_n 2, 1) := dk_28 (dk_at dksX1_beyond_0 11 rfl rfl)
theorem dX1_beyond_12 : decode cX1_beyond 12 = .ok (.aload_n 1, 1) := dk_43 (dk_at dksX1_beyond_0 12 rfl rfl)
theorem dX1_beyond_13 : decode cX1_beyond 13 = .ok (.iload_n 2, 1) := dk_28 (dk_at dksX1_beyond_0 13 rfl rfl)
theorem dX1_beyond_14 : decode cX1_beyond 14 = .ok (.iaload, 1) := dk_46 (dk_at dksX1_beyond_0 14 rfl rfl)
theorem dX1_beyond_15 : decode cX1_beyond 15 = .ok (.invokevirtual 43, 3) := dk_182 0 43 (dk_at dksX1_beyond_0 15 rfl rfl)
theorem dX1_beyond_18 : decode cX1_beyond 18 = .ok (.ifCond .eq 9, 3) := dk_153 0 9 (dk_at dksX1_beyond_0 18 rfl rfl)
theorem dX1_beyond_21 : decode cX1_beyond 21 = .ok (.iinc 2 1, 3) := dk_132 2 1 (dk_at dksX1_beyond_0 21 rfl rfl)
theorem dX1_beyond_24 : decode cX1_beyond 24 = .ok (.goto (-22), 3) := dk_167 255 234 (dk_at dksX1_beyond_1 0 rfl rfl)
theorem dX1_beyond_27 : decode cX1_beyond 27 = .ok (.iload_n 2, 1) := dk_28 (dk_at dksX1_beyond_1 3 rfl rfl)
theorem dX1_beyond_28 : decode cX1_beyond 28 = .ok (.aload_n 0, 1) := dk_42 (dk_at dksX1_beyond_1 4 rfl rfl)
theorem dX1_beyond_29 : decode cX1_beyond 29 = .ok (.getfield 18, 3) := dk_180 0 18 (dk_at dksX1_beyond_1 5 rfl rfl)
theorem dX1_beyond_32 : decode cX1_beyond 32 = .ok (.if_icmp .ge 7, 3) := dk_162 0 7 (dk_at dksX1_beyond_1 8 rfl rfl)
theorem dX1_beyond_35 : decode cX1_beyond 35 = .ok (.iload_n 2, 1) := dk_28 (dk_at dksX1_beyond_1 11 rfl rfl)
theorem dX1_beyond_36 : decode cX1_beyond 36 = .ok (.goto 4, 3) := dk_167 0 4 (dk_at dksX1_beyond_1 12 rfl rfl)
theorem dX1_beyond_39 : decode cX1_beyond 39 = .ok (.iconst (-1), 1) := dk_2 (dk_at dksX1_beyond_1 15 rfl rfl)
theorem dX1_beyond_40 : decode cX1_beyond 40 = .ok (.ireturn, 1) := dk_172 (dk_at dksX1_beyond_1 16 rfl rfl)
abbrev cX1_has : ByteArray := prog_4_method_5_code
def yX1_has : MethodName := ⟨RX1, "has", "(II)Z"⟩
def dkwX1_has_1 : List UInt8 := [3, 172]
abbrev dktX1_has_1 : List UInt8 := dkwX1_has_1 ++ []
def dkwX1_has_0 : List UInt8 := [28, 42, 180, 0, 9, 27, 46, 161, 0, 17, 28, 42, 180, 0, 15, 27, 46, 163, 0, 7, 4, 167, 0, 4]
abbrev dktX1_has_0 : List UInt8 := dkwX1_has_0 ++ dktX1_has_1
theorem dksX1_has_0 : cX1_has.data.toList.drop 0 = dktX1_has_0 := by decide +kernel
theorem dksX1_has_1 : cX1_has.data.toList.drop 24 = dktX1_has_1 := dk_seg dksX1_has_0 24 rfl rfl
theorem dX1_has_0 : decode cX1_has 0 = .ok (.iload_n 2, 1) := dk_28 (dk_at dksX1_has_0 0 rfl rfl)
theorem dX1_has_1 : decode cX1_has 1 = .ok (.aload_n 0, 1) := dk_42 (dk_at dksX1_has_0 1 rfl rfl)
theorem dX1_has_2 : decode cX1_has 2 = .ok (.getfield 9, 3) := dk_180 0 9 (dk_at dksX1_has_0 2 rfl rfl)
theorem dX1_has_5 : decode cX1_has 5 = .ok (.iload_n 1, 1) := dk_27 (dk_at dksX1_has_0 5 rfl rfl)
theorem dX1_has_6 : decode cX1_has 6 = .ok (.iaload, 1) := dk_46 (dk_at dksX1_has_0 6 rfl rfl)
theorem dX1_has_7 : decode cX1_has 7 = .ok (.if_icmp .lt 17, 3) := dk_161 0 17 (dk_at dksX1_has_0 7 rfl rfl)
theorem dX1_has_10 : decode cX1_has 10 = .ok (.iload_n 2, 1) := dk_28 (dk_at dksX1_has_0 10 rfl rfl)
theorem dX1_has_11 : decode cX1_has 11 = .ok (.aload_n 0, 1) := dk_42 (dk_at dksX1_has_0 11 rfl rfl)
theorem dX1_has_12 : decode cX1_has 12 = .ok (.getfield 15, 3) := dk_180 0 15 (dk_at dksX1_has_0 12 rfl rfl)
theorem dX1_has_15 : decode cX1_has 15 = .ok (.iload_n 1, 1) := dk_27 (dk_at dksX1_has_0 15 rfl rfl)
theorem dX1_has_16 : decode cX1_has 16 = .ok (.iaload, 1) := dk_46 (dk_at dksX1_has_0 16 rfl rfl)
theorem dX1_has_17 : decode cX1_has 17 = .ok (.if_icmp .gt 7, 3) := dk_163 0 7 (dk_at dksX1_has_0 17 rfl rfl)
theorem dX1_has_20 : decode cX1_has 20 = .ok (.iconst 1, 1) := dk_4 (dk_at dksX1_has_0 20 rfl rfl)
theorem dX1_has_21 : decode cX1_has 21 = .ok (.goto 4, 3) := dk_167 0 4 (dk_at dksX1_has_0 21 rfl rfl)
theorem dX1_has_24 : decode cX1_has 24 = .ok (.iconst 0, 1) := dk_3 (dk_at dksX1_has_1 0 rfl rfl)
theorem dX1_has_25 : decode cX1_has 25 = .ok (.ireturn, 1) := dk_172 (dk_at dksX1_has_1 1 rfl rfl)
theorem q29 : (Jvm.Cond.initialized "ArrayMaker$Shape") ∈ lw_all := lw_g (lw_at lw_m1 2 rfl) rfl
theorem q55 : (Jvm.Cond.instantiable "ArrayMaker$Shape" (3 : Nat)) ∈ lw_all := lw_g (lw_at lw_m1 28 rfl) rfl
theorem q57 : (Jvm.Cond.instanceMethod ({ cls := "ArrayMaker$Shape", name := "<init>", desc := "()V" } : Jvm.MethodName)) ∈ lw_all := lw_g (lw_at lw_m1 30 rfl) rfl
theorem q58 : (Jvm.Cond.code ({ cls := "ArrayMaker$Shape", name := "<init>", desc := "()V" } : Jvm.MethodName) prog_4_method_1_code (1 : Nat) (Option.none : Option Jvm.ClassFile.FieldType)) ∈ lw_all := lw_g (lw_at lw_m1 31 rfl) rfl
theorem q59 : (Jvm.Cond.methodLink "ArrayMaker$Shape" (3 : Nat) ({ cls := "java/lang/Object", name := "<init>", desc := "()V" } : Jvm.MethodName)) ∈ lw_all := lw_g (lw_at lw_m1 32 rfl) rfl
theorem q60 : (Jvm.Cond.fieldLink "ArrayMaker$Shape" (18 : Nat) "ArrayMaker$Shape" "many" "I") ∈ lw_all := lw_g (lw_at lw_m1 33 rfl) rfl
theorem q62 : (Jvm.Cond.fieldLink "ArrayMaker$Shape" (9 : Nat) "ArrayMaker$Shape" "low" "[I") ∈ lw_all := lw_g (lw_at lw_m1 35 rfl) rfl
theorem q64 : (Jvm.Cond.fieldLink "ArrayMaker$Shape" (15 : Nat) "ArrayMaker$Shape" "high" "[I") ∈ lw_all := lw_g (lw_at lw_m1 37 rfl) rfl
theorem q66 : (Jvm.Cond.lays "ArrayMaker$Shape" "ArrayMaker$Shape" "many" "I") ∈ lw_all := lw_g (lw_at lw_m1 39 rfl) rfl
theorem q67 : (Jvm.Cond.soleField "ArrayMaker$Shape" "many") ∈ lw_all := lw_g (lw_at lw_m1 40 rfl) rfl
theorem q68 : (Jvm.Cond.laysFinal "ArrayMaker$Shape" "ArrayMaker$Shape" "low" "[I") ∈ lw_all := lw_g (lw_at lw_m1 41 rfl) rfl
theorem q69 : (Jvm.Cond.soleField "ArrayMaker$Shape" "low") ∈ lw_all := lw_g (lw_at lw_m1 42 rfl) rfl
theorem q70 : (Jvm.Cond.laysFinal "ArrayMaker$Shape" "ArrayMaker$Shape" "high" "[I") ∈ lw_all := lw_g (lw_at lw_m1 43 rfl) rfl
theorem q71 : (Jvm.Cond.soleField "ArrayMaker$Shape" "high") ∈ lw_all := lw_g (lw_at lw_m1 44 rfl) rfl
theorem q72 : (Jvm.Cond.superclass "ArrayMaker$Shape" "java/lang/Object") ∈ lw_all := lw_g (lw_at lw_m1 45 rfl) rfl
theorem q247 : (Jvm.Cond.instanceMethod ({ cls := "ArrayMaker$Shape", name := "items", desc := "()I" } : Jvm.MethodName)) ∈ lw_all := lw_g (lw_at lw_m1 220 rfl) rfl
theorem q248 : (Jvm.Cond.selects "ArrayMaker$Shape" ({ cls := "ArrayMaker$Shape", name := "items", desc := "()I" } : Jvm.MethodName) ({ cls := "ArrayMaker$Shape", name := "items", desc := "()I" } : Jvm.MethodName)) ∈ lw_all := lw_g (lw_at lw_m1 221 rfl) rfl
theorem q249 : (Jvm.Cond.code ({ cls := "ArrayMaker$Shape", name := "items", desc := "()I" } : Jvm.MethodName) prog_4_method_4_code (5 : Nat) (Option.some Jvm.ClassFile.FieldType.int)) ∈ lw_all := lw_g (lw_at lw_m1 222 rfl) rfl
theorem q250 : (Jvm.Cond.methodLink "ArrayMaker$Shape" (34 : Nat) ({ cls := "ArrayMaker$Shape", name := "length", desc := "(I)J" } : Jvm.MethodName)) ∈ lw_all := lw_g (lw_at lw_m1 223 rfl) rfl
theorem q251 : (Jvm.Cond.instanceMethod ({ cls := "ArrayMaker$Shape", name := "length", desc := "(I)J" } : Jvm.MethodName)) ∈ lw_all := lw_g (lw_at lw_m1 224 rfl) rfl
theorem q252 : (Jvm.Cond.selects "ArrayMaker$Shape" ({ cls := "ArrayMaker$Shape", name := "length", desc := "(I)J" } : Jvm.MethodName) ({ cls := "ArrayMaker$Shape", name := "length", desc := "(I)J" } : Jvm.MethodName)) ∈ lw_all := lw_g (lw_at lw_m1 225 rfl) rfl
theorem q253 : (Jvm.Cond.code ({ cls := "ArrayMaker$Shape", name := "length", desc := "(I)J" } : Jvm.MethodName) prog_4_method_3_code (2 : Nat) (Option.some Jvm.ClassFile.FieldType.long)) ∈ lw_all := lw_g (lw_at lw_m1 226 rfl) rfl
theorem q254 : (Jvm.Cond.methodLink "ArrayMaker$Shape" (28 : Nat) ({ cls := "java/lang/Math", name := "max", desc := "(JJ)J" } : Jvm.MethodName)) ∈ lw_all := lw_g (lw_at lw_m1 227 rfl) rfl
theorem q257 : (Jvm.Cond.constantLong "ArrayMaker$Shape" (38 : Nat) (501 : Int64)) ∈ lw_all := lw_g (lw_at lw_m1 230 rfl) rfl
theorem q258 : (Jvm.Cond.methodLink "ArrayMaker$Shape" (40 : Nat) ({ cls := "java/lang/Math", name := "min", desc := "(JJ)J" } : Jvm.MethodName)) ∈ lw_all := lw_g (lw_at lw_m1 231 rfl) rfl
theorem q278 : (Jvm.Cond.instanceMethod ({ cls := "ArrayMaker$Shape", name := "set", desc := "(LArrayMaker$Shape;)V" } : Jvm.MethodName)) ∈ lw_all := lw_g (lw_at lw_m2 11 rfl) rfl
theorem q279 : (Jvm.Cond.selects "ArrayMaker$Shape" ({ cls := "ArrayMaker$Shape", name := "set", desc := "(LArrayMaker$Shape;)V" } : Jvm.MethodName) ({ cls := "ArrayMaker$Shape", name := "set", desc := "(LArrayMaker$Shape;)V" } : Jvm.MethodName)) ∈ lw_all := lw_g (lw_at lw_m2 12 rfl) rfl
theorem q280 : (Jvm.Cond.code ({ cls := "ArrayMaker$Shape", name := "set", desc := "(LArrayMaker$Shape;)V" } : Jvm.MethodName) prog_4_method_2_code (2 : Nat) (Option.none : Option Jvm.ClassFile.FieldType)) ∈ lw_all := lw_g (lw_at lw_m2 13 rfl) rfl
theorem q281 : (Jvm.Cond.methodLink "ArrayMaker$Shape" (22 : Nat) ({ cls := "java/lang/System", name := "arraycopy", desc := "(Ljava/lang/Object;ILjava/lang/Object;II)V" } : Jvm.MethodName)) ∈ lw_all := lw_g (lw_at lw_m2 14 rfl) rfl
theorem q325 : (Jvm.Cond.instanceMethod ({ cls := "ArrayMaker$Shape", name := "first", desc := "([I)V" } : Jvm.MethodName)) ∈ lw_all := lw_g (lw_at lw_m2 58 rfl) rfl
theorem q326 : (Jvm.Cond.selects "ArrayMaker$Shape" ({ cls := "ArrayMaker$Shape", name := "first", desc := "([I)V" } : Jvm.MethodName) ({ cls := "ArrayMaker$Shape", name := "first", desc := "([I)V" } : Jvm.MethodName)) ∈ lw_all := lw_g (lw_at lw_m2 59 rfl) rfl
theorem q327 : (Jvm.Cond.code ({ cls := "ArrayMaker$Shape", name := "first", desc := "([I)V" } : Jvm.MethodName) prog_4_method_8_code (2 : Nat) (Option.none : Option Jvm.ClassFile.FieldType)) ∈ lw_all := lw_g (lw_at lw_m2 60 rfl) rfl
theorem q329 : (Jvm.Cond.instanceMethod ({ cls := "ArrayMaker$Shape", name := "place", desc := "([I)I" } : Jvm.MethodName)) ∈ lw_all := lw_g (lw_at lw_m2 62 rfl) rfl
theorem q330 : (Jvm.Cond.selects "ArrayMaker$Shape" ({ cls := "ArrayMaker$Shape", name := "place", desc := "([I)I" } : Jvm.MethodName) ({ cls := "ArrayMaker$Shape", name := "place", desc := "([I)I" } : Jvm.MethodName)) ∈ lw_all := lw_g (lw_at lw_m2 63 rfl) rfl
theorem q331 : (Jvm.Cond.code ({ cls := "ArrayMaker$Shape", name := "place", desc := "([I)I" } : Jvm.MethodName) prog_4_method_7_code (5 : Nat) (Option.some Jvm.ClassFile.FieldType.int)) ∈ lw_all := lw_g (lw_at lw_m2 64 rfl) rfl
theorem q337 : (Jvm.Cond.instanceMethod ({ cls := "ArrayMaker$Shape", name := "next", desc := "([I)V" } : Jvm.MethodName)) ∈ lw_all := lw_g (lw_at lw_m2 70 rfl) rfl
theorem q338 : (Jvm.Cond.selects "ArrayMaker$Shape" ({ cls := "ArrayMaker$Shape", name := "next", desc := "([I)V" } : Jvm.MethodName) ({ cls := "ArrayMaker$Shape", name := "next", desc := "([I)V" } : Jvm.MethodName)) ∈ lw_all := lw_g (lw_at lw_m2 71 rfl) rfl
theorem q339 : (Jvm.Cond.code ({ cls := "ArrayMaker$Shape", name := "next", desc := "([I)V" } : Jvm.MethodName) prog_4_method_9_code (3 : Nat) (Option.none : Option Jvm.ClassFile.FieldType)) ∈ lw_all := lw_g (lw_at lw_m2 72 rfl) rfl
theorem q345 : (Jvm.Cond.instanceMethod ({ cls := "ArrayMaker$Shape", name := "beyond", desc := "([I)I" } : Jvm.MethodName)) ∈ lw_all := lw_g (lw_at lw_m2 78 rfl) rfl
theorem q346 : (Jvm.Cond.selects "ArrayMaker$Shape" ({ cls := "ArrayMaker$Shape", name := "beyond", desc := "([I)I" } : Jvm.MethodName) ({ cls := "ArrayMaker$Shape", name := "beyond", desc := "([I)I" } : Jvm.MethodName)) ∈ lw_all := lw_g (lw_at lw_m2 79 rfl) rfl
theorem q347 : (Jvm.Cond.code ({ cls := "ArrayMaker$Shape", name := "beyond", desc := "([I)I" } : Jvm.MethodName) prog_4_method_6_code (3 : Nat) (Option.some Jvm.ClassFile.FieldType.int)) ∈ lw_all := lw_g (lw_at lw_m2 80 rfl) rfl
theorem q348 : (Jvm.Cond.methodLink "ArrayMaker$Shape" (43 : Nat) ({ cls := "ArrayMaker$Shape", name := "has", desc := "(II)Z" } : Jvm.MethodName)) ∈ lw_all := lw_g (lw_at lw_m2 81 rfl) rfl
theorem q349 : (Jvm.Cond.instanceMethod ({ cls := "ArrayMaker$Shape", name := "has", desc := "(II)Z" } : Jvm.MethodName)) ∈ lw_all := lw_g (lw_at lw_m2 82 rfl) rfl
theorem q350 : (Jvm.Cond.selects "ArrayMaker$Shape" ({ cls := "ArrayMaker$Shape", name := "has", desc := "(II)Z" } : Jvm.MethodName) ({ cls := "ArrayMaker$Shape", name := "has", desc := "(II)Z" } : Jvm.MethodName)) ∈ lw_all := lw_g (lw_at lw_m2 83 rfl) rfl
theorem q351 : (Jvm.Cond.code ({ cls := "ArrayMaker$Shape", name := "has", desc := "(II)Z" } : Jvm.MethodName) prog_4_method_5_code (3 : Nat) (Option.some Jvm.ClassFile.FieldType.boolean)) ∈ lw_all := lw_g (lw_at lw_m2 84 rfl) rfl
theorem in_X1 : ∀ w ∈ wsX10, w ∈ lw_all := lw_in wsX10 [66, 68, 70] (by decide +kernel) (by decide +kernel)
/-! ArrayMaker$Seen -/
set_option maxRecDepth 100000
def RX2 : String := "ArrayMaker$Seen"
def TX2 : u_T := fun k => match k with
  | 0 => ("ArrayMaker$Seen", "shape", "LArrayMaker$Shape;", true)
  | _ => ("ArrayMaker$Seen", "row", "Ljava/lang/Object;", false)
def tyX2 : Nat → FieldType := fun k => match k with
  | 0 => .object "ArrayMaker$Shape"
  | _ => .object "java/lang/Object"
abbrev wsX20 : List Cond := u_ws RX2 TX2 2
theorem nmX2 : ∀ a, a < 2 → ∀ b, b < 2 → a ≠ b → (TX2 a).2.1 ≠ (TX2 b).2.1 := by decide +kernel
theorem tyX2_ok : ∀ k, k < 2 → parseFieldDescriptor (TX2 k).2.2.1 = some (tyX2 k) := by decide +kernel
abbrev cX2_init : ByteArray := prog_3_method_1_code
def yX2_init : MethodName := ⟨RX2, "<init>", "()V"⟩
def dkwX2_init_0 : List UInt8 := [42, 183, 0, 1, 42, 187, 0, 7, 89, 183, 0, 9, 181, 0, 10, 177]
abbrev dktX2_init_0 : List UInt8 := dkwX2_init_0 ++ []
theorem dksX2_init_0 : cX2_init.data.toList.drop 0 = dktX2_init_0 := by decide +kernel
theorem dX2_init_0 : decode cX2_init 0 = .ok (.aload_n 0, 1) := dk_42 (dk_at dksX2_init_0 0 rfl rfl)
theorem dX2_init_1 : decode cX2_init 1 = .ok (.invokespecial 1, 3) := dk_183 0 1 (dk_at dksX2_init_0 1 rfl rfl)
theorem dX2_init_4 : decode cX2_init 4 = .ok (.aload_n 0, 1) := dk_42 (dk_at dksX2_init_0 4 rfl rfl)
theorem dX2_init_5 : decode cX2_init 5 = .ok (.new 7, 3) := dk_187 0 7 (dk_at dksX2_init_0 5 rfl rfl)
theorem dX2_init_8 : decode cX2_init 8 = .ok (.dup, 1) := dk_89 (dk_at dksX2_init_0 8 rfl rfl)
theorem dX2_init_9 : decode cX2_init 9 = .ok (.invokespecial 9, 3) := dk_183 0 9 (dk_at dksX2_init_0 9 rfl rfl)
theorem dX2_init_12 : decode cX2_init 12 = .ok (.putfield 10, 3) := dk_181 0 10 (dk_at dksX2_init_0 12 rfl rfl)
theorem dX2_init_15 : decode cX2_init 15 = .ok (.return_, 1) := dk_177 (dk_at dksX2_init_0 15 rfl rfl)
theorem q30 : (Jvm.Cond.initialized "ArrayMaker$Seen") ∈ lw_all := lw_g (lw_at lw_m1 3 rfl) rfl
theorem q76 : (Jvm.Cond.instantiable "ArrayMaker$Seen" (2 : Nat)) ∈ lw_all := lw_g (lw_at lw_m1 49 rfl) rfl
theorem q78 : (Jvm.Cond.instanceMethod ({ cls := "ArrayMaker$Seen", name := "<init>", desc := "()V" } : Jvm.MethodName)) ∈ lw_all := lw_g (lw_at lw_m1 51 rfl) rfl
theorem q79 : (Jvm.Cond.code ({ cls := "ArrayMaker$Seen", name := "<init>", desc := "()V" } : Jvm.MethodName) prog_3_method_1_code (1 : Nat) (Option.none : Option Jvm.ClassFile.FieldType)) ∈ lw_all := lw_g (lw_at lw_m1 52 rfl) rfl
theorem q80 : (Jvm.Cond.methodLink "ArrayMaker$Seen" (1 : Nat) ({ cls := "java/lang/Object", name := "<init>", desc := "()V" } : Jvm.MethodName)) ∈ lw_all := lw_g (lw_at lw_m1 53 rfl) rfl
theorem q81 : (Jvm.Cond.classLink "ArrayMaker$Seen" (7 : Nat) "ArrayMaker$Shape") ∈ lw_all := lw_g (lw_at lw_m1 54 rfl) rfl
theorem q82 : (Jvm.Cond.methodLinkNest "ArrayMaker$Seen" (9 : Nat) ({ cls := "ArrayMaker$Shape", name := "<init>", desc := "()V" } : Jvm.MethodName) "ArrayMaker") ∈ lw_tbl := lw_at lw_m1 55 rfl
theorem q83 : (Jvm.Cond.fieldLink "ArrayMaker$Seen" (10 : Nat) "ArrayMaker$Seen" "shape" "LArrayMaker$Shape;") ∈ lw_all := lw_g (lw_at lw_m1 56 rfl) rfl
theorem q86 : (Jvm.Cond.laysFinal "ArrayMaker$Seen" "ArrayMaker$Seen" "shape" "LArrayMaker$Shape;") ∈ lw_all := lw_g (lw_at lw_m1 59 rfl) rfl
theorem q87 : (Jvm.Cond.soleField "ArrayMaker$Seen" "shape") ∈ lw_all := lw_g (lw_at lw_m1 60 rfl) rfl
theorem q88 : (Jvm.Cond.lays "ArrayMaker$Seen" "ArrayMaker$Seen" "row" "Ljava/lang/Object;") ∈ lw_all := lw_g (lw_at lw_m1 61 rfl) rfl
theorem q89 : (Jvm.Cond.soleField "ArrayMaker$Seen" "row") ∈ lw_all := lw_g (lw_at lw_m1 62 rfl) rfl
theorem q90 : (Jvm.Cond.superclass "ArrayMaker$Seen" "java/lang/Object") ∈ lw_all := lw_g (lw_at lw_m1 63 rfl) rfl
theorem in_X2 : ∀ w ∈ wsX20, w ∈ lw_all := lw_in wsX20 [86, 88] (by decide +kernel) (by decide +kernel)
/-! ArrayMaker$Box -/
set_option maxRecDepth 100000
def RX4 : String := "ArrayMaker$Box"
def TX4 : u_T := fun k => match k with
  | _ => ("ArrayMaker$Box", "number", "J", true)
def tyX4 : Nat → FieldType := fun k => match k with
  | _ => .long
abbrev wsX40 : List Cond := u_ws RX4 TX4 1
theorem nmX4 : ∀ a, a < 1 → ∀ b, b < 1 → a ≠ b → (TX4 a).2.1 ≠ (TX4 b).2.1 := by decide +kernel
theorem tyX4_ok : ∀ k, k < 1 → parseFieldDescriptor (TX4 k).2.2.1 = some (tyX4 k) := by decide +kernel
abbrev cX4_init : ByteArray := prog_2_method_1_code
def yX4_init : MethodName := ⟨RX4, "<init>", "(J)V"⟩
def dkwX4_init_0 : List UInt8 := [42, 183, 0, 1, 42, 31, 181, 0, 7, 177]
abbrev dktX4_init_0 : List UInt8 := dkwX4_init_0 ++ []
theorem dksX4_init_0 : cX4_init.data.toList.drop 0 = dktX4_init_0 := by decide +kernel
theorem dX4_init_0 : decode cX4_init 0 = .ok (.aload_n 0, 1) := dk_42 (dk_at dksX4_init_0 0 rfl rfl)
theorem dX4_init_1 : decode cX4_init 1 = .ok (.invokespecial 1, 3) := dk_183 0 1 (dk_at dksX4_init_0 1 rfl rfl)
theorem dX4_init_4 : decode cX4_init 4 = .ok (.aload_n 0, 1) := dk_42 (dk_at dksX4_init_0 4 rfl rfl)
theorem dX4_init_5 : decode cX4_init 5 = .ok (.lload_n 1, 1) := dk_31 (dk_at dksX4_init_0 5 rfl rfl)
theorem dX4_init_6 : decode cX4_init 6 = .ok (.putfield 7, 3) := dk_181 0 7 (dk_at dksX4_init_0 6 rfl rfl)
theorem dX4_init_9 : decode cX4_init 9 = .ok (.return_, 1) := dk_177 (dk_at dksX4_init_0 9 rfl rfl)
theorem q43 : (Jvm.Cond.initialized "ArrayMaker$Box") ∈ lw_all := lw_g (lw_at lw_m1 16 rfl) rfl
theorem q437 : (Jvm.Cond.instantiable "ArrayMaker$Box" (1 : Nat)) ∈ lw_all := lw_g (lw_at lw_m2 170 rfl) rfl
theorem q439 : (Jvm.Cond.instanceMethod ({ cls := "ArrayMaker$Box", name := "<init>", desc := "(J)V" } : Jvm.MethodName)) ∈ lw_all := lw_g (lw_at lw_m2 172 rfl) rfl
theorem q440 : (Jvm.Cond.code ({ cls := "ArrayMaker$Box", name := "<init>", desc := "(J)V" } : Jvm.MethodName) prog_2_method_1_code (3 : Nat) (Option.none : Option Jvm.ClassFile.FieldType)) ∈ lw_all := lw_g (lw_at lw_m2 173 rfl) rfl
theorem q441 : (Jvm.Cond.methodLink "ArrayMaker$Box" (1 : Nat) ({ cls := "java/lang/Object", name := "<init>", desc := "()V" } : Jvm.MethodName)) ∈ lw_all := lw_g (lw_at lw_m2 174 rfl) rfl
theorem q442 : (Jvm.Cond.fieldLink "ArrayMaker$Box" (7 : Nat) "ArrayMaker$Box" "number" "J") ∈ lw_all := lw_g (lw_at lw_m2 175 rfl) rfl
theorem q444 : (Jvm.Cond.laysFinal "ArrayMaker$Box" "ArrayMaker$Box" "number" "J") ∈ lw_all := lw_g (lw_at lw_m2 177 rfl) rfl
theorem q445 : (Jvm.Cond.soleField "ArrayMaker$Box" "number") ∈ lw_all := lw_g (lw_at lw_m2 178 rfl) rfl
theorem q446 : (Jvm.Cond.superclass "ArrayMaker$Box" "java/lang/Object") ∈ lw_all := lw_g (lw_at lw_m2 179 rfl) rfl
theorem in_X4 : ∀ w ∈ wsX40, w ∈ lw_all := lw_in wsX40 [444] (by decide +kernel) (by decide +kernel)
/-! java/lang/Math -/
set_option maxRecDepth 100000
def RJ6 : String := "java/lang/Math"
abbrev cJ6_max : ByteArray := prog_13_method_66_code
def yJ6_max : MethodName := ⟨RJ6, "max", "(JJ)J"⟩
def dkwJ6_max_0 : List UInt8 := [30, 32, 148, 155, 0, 7, 30, 167, 0, 4, 32, 173]
abbrev dktJ6_max_0 : List UInt8 := dkwJ6_max_0 ++ []
theorem dksJ6_max_0 : cJ6_max.data.toList.drop 0 = dktJ6_max_0 := by decide +kernel
theorem dJ6_max_0 : decode cJ6_max 0 = .ok (.lload_n 0, 1) := dk_30 (dk_at dksJ6_max_0 0 rfl rfl)
theorem dJ6_max_1 : decode cJ6_max 1 = .ok (.lload_n 2, 1) := dk_32 (dk_at dksJ6_max_0 1 rfl rfl)
theorem dJ6_max_2 : decode cJ6_max 2 = .ok (.lcmp, 1) := dk_148 (dk_at dksJ6_max_0 2 rfl rfl)
theorem dJ6_max_3 : decode cJ6_max 3 = .ok (.ifCond .lt 7, 3) := dk_155 0 7 (dk_at dksJ6_max_0 3 rfl rfl)
theorem dJ6_max_6 : decode cJ6_max 6 = .ok (.lload_n 0, 1) := dk_30 (dk_at dksJ6_max_0 6 rfl rfl)
theorem dJ6_max_7 : decode cJ6_max 7 = .ok (.goto 4, 3) := dk_167 0 4 (dk_at dksJ6_max_0 7 rfl rfl)
theorem dJ6_max_10 : decode cJ6_max 10 = .ok (.lload_n 2, 1) := dk_32 (dk_at dksJ6_max_0 10 rfl rfl)
theorem dJ6_max_11 : decode cJ6_max 11 = .ok (.lreturn, 1) := dk_173 (dk_at dksJ6_max_0 11 rfl rfl)
abbrev cJ6_min : ByteArray := prog_13_method_70_code
def yJ6_min : MethodName := ⟨RJ6, "min", "(JJ)J"⟩
def dkwJ6_min_0 : List UInt8 := [30, 32, 148, 157, 0, 7, 30, 167, 0, 4, 32, 173]
abbrev dktJ6_min_0 : List UInt8 := dkwJ6_min_0 ++ []
theorem dksJ6_min_0 : cJ6_min.data.toList.drop 0 = dktJ6_min_0 := by decide +kernel
theorem dJ6_min_0 : decode cJ6_min 0 = .ok (.lload_n 0, 1) := dk_30 (dk_at dksJ6_min_0 0 rfl rfl)
theorem dJ6_min_1 : decode cJ6_min 1 = .ok (.lload_n 2, 1) := dk_32 (dk_at dksJ6_min_0 1 rfl rfl)
theorem dJ6_min_2 : decode cJ6_min 2 = .ok (.lcmp, 1) := dk_148 (dk_at dksJ6_min_0 2 rfl rfl)
theorem dJ6_min_3 : decode cJ6_min 3 = .ok (.ifCond .gt 7, 3) := dk_157 0 7 (dk_at dksJ6_min_0 3 rfl rfl)
theorem dJ6_min_6 : decode cJ6_min 6 = .ok (.lload_n 0, 1) := dk_30 (dk_at dksJ6_min_0 6 rfl rfl)
theorem dJ6_min_7 : decode cJ6_min 7 = .ok (.goto 4, 3) := dk_167 0 4 (dk_at dksJ6_min_0 7 rfl rfl)
theorem dJ6_min_10 : decode cJ6_min 10 = .ok (.lload_n 2, 1) := dk_32 (dk_at dksJ6_min_0 10 rfl rfl)
theorem dJ6_min_11 : decode cJ6_min 11 = .ok (.lreturn, 1) := dk_173 (dk_at dksJ6_min_0 11 rfl rfl)
abbrev cJ6_min_2 : ByteArray := prog_13_method_69_code
def yJ6_min_2 : MethodName := ⟨RJ6, "min", "(II)I"⟩
def dkwJ6_min_2_0 : List UInt8 := [26, 27, 163, 0, 7, 26, 167, 0, 4, 27, 172]
abbrev dktJ6_min_2_0 : List UInt8 := dkwJ6_min_2_0 ++ []
theorem dksJ6_min_2_0 : cJ6_min_2.data.toList.drop 0 = dktJ6_min_2_0 := by decide +kernel
theorem dJ6_min_2_0 : decode cJ6_min_2 0 = .ok (.iload_n 0, 1) := dk_26 (dk_at dksJ6_min_2_0 0 rfl rfl)
theorem dJ6_min_2_1 : decode cJ6_min_2 1 = .ok (.iload_n 1, 1) := dk_27 (dk_at dksJ6_min_2_0 1 rfl rfl)
theorem dJ6_min_2_2 : decode cJ6_min_2 2 = .ok (.if_icmp .gt 7, 3) := dk_163 0 7 (dk_at dksJ6_min_2_0 2 rfl rfl)
theorem dJ6_min_2_5 : decode cJ6_min_2 5 = .ok (.iload_n 0, 1) := dk_26 (dk_at dksJ6_min_2_0 5 rfl rfl)
theorem dJ6_min_2_6 : decode cJ6_min_2 6 = .ok (.goto 4, 3) := dk_167 0 4 (dk_at dksJ6_min_2_0 6 rfl rfl)
theorem dJ6_min_2_9 : decode cJ6_min_2 9 = .ok (.iload_n 1, 1) := dk_27 (dk_at dksJ6_min_2_0 9 rfl rfl)
theorem dJ6_min_2_10 : decode cJ6_min_2 10 = .ok (.ireturn, 1) := dk_172 (dk_at dksJ6_min_2_0 10 rfl rfl)
theorem q38 : (Jvm.Cond.initialized "java/lang/Math") ∈ lw_all := lw_g (lw_at lw_m1 11 rfl) rfl
theorem q255 : (Jvm.Cond.static ({ cls := "java/lang/Math", name := "max", desc := "(JJ)J" } : Jvm.MethodName)) ∈ lw_all := lw_g (lw_at lw_m1 228 rfl) rfl
theorem q256 : (Jvm.Cond.code ({ cls := "java/lang/Math", name := "max", desc := "(JJ)J" } : Jvm.MethodName) prog_13_method_66_code (4 : Nat) (Option.some Jvm.ClassFile.FieldType.long)) ∈ lw_all := lw_g (lw_at lw_m1 229 rfl) rfl
theorem q259 : (Jvm.Cond.static ({ cls := "java/lang/Math", name := "min", desc := "(JJ)J" } : Jvm.MethodName)) ∈ lw_all := lw_g (lw_at lw_m1 232 rfl) rfl
theorem q260 : (Jvm.Cond.code ({ cls := "java/lang/Math", name := "min", desc := "(JJ)J" } : Jvm.MethodName) prog_13_method_70_code (4 : Nat) (Option.some Jvm.ClassFile.FieldType.long)) ∈ lw_all := lw_g (lw_at lw_m1 233 rfl) rfl
theorem q515 : (Jvm.Cond.static ({ cls := "java/lang/Math", name := "min", desc := "(II)I" } : Jvm.MethodName)) ∈ lw_all := lw_g (lw_at lw_m3 8 rfl) rfl
theorem q516 : (Jvm.Cond.code ({ cls := "java/lang/Math", name := "min", desc := "(II)I" } : Jvm.MethodName) prog_13_method_69_code (2 : Nat) (Option.some Jvm.ClassFile.FieldType.int)) ∈ lw_all := lw_g (lw_at lw_m3 9 rfl) rfl
/-! java/lang/Integer -/
set_option maxRecDepth 100000
def RJ11 : String := "java/lang/Integer"
abbrev cJ11_compare : ByteArray := prog_12_method_40_code
def yJ11_compare : MethodName := ⟨RJ11, "compare", "(II)I"⟩
def dkwJ11_compare_0 : List UInt8 := [26, 27, 162, 0, 7, 2, 167, 0, 13, 26, 27, 160, 0, 7, 3, 167, 0, 4, 4, 172]
abbrev dktJ11_compare_0 : List UInt8 := dkwJ11_compare_0 ++ []
theorem dksJ11_compare_0 : cJ11_compare.data.toList.drop 0 = dktJ11_compare_0 := by decide +kernel
theorem dJ11_compare_0 : decode cJ11_compare 0 = .ok (.iload_n 0, 1) := dk_26 (dk_at dksJ11_compare_0 0 rfl rfl)
theorem dJ11_compare_1 : decode cJ11_compare 1 = .ok (.iload_n 1, 1) := dk_27 (dk_at dksJ11_compare_0 1 rfl rfl)
theorem dJ11_compare_2 : decode cJ11_compare 2 = .ok (.if_icmp .ge 7, 3) := dk_162 0 7 (dk_at dksJ11_compare_0 2 rfl rfl)
theorem dJ11_compare_5 : decode cJ11_compare 5 = .ok (.iconst (-1), 1) := dk_2 (dk_at dksJ11_compare_0 5 rfl rfl)
theorem dJ11_compare_6 : decode cJ11_compare 6 = .ok (.goto 13, 3) := dk_167 0 13 (dk_at dksJ11_compare_0 6 rfl rfl)
theorem dJ11_compare_9 : decode cJ11_compare 9 = .ok (.iload_n 0, 1) := dk_26 (dk_at dksJ11_compare_0 9 rfl rfl)
theorem dJ11_compare_10 : decode cJ11_compare 10 = .ok (.iload_n 1, 1) := dk_27 (dk_at dksJ11_compare_0 10 rfl rfl)
theorem dJ11_compare_11 : decode cJ11_compare 11 = .ok (.if_icmp .ne 7, 3) := dk_160 0 7 (dk_at dksJ11_compare_0 11 rfl rfl)
theorem dJ11_compare_14 : decode cJ11_compare 14 = .ok (.iconst 0, 1) := dk_3 (dk_at dksJ11_compare_0 14 rfl rfl)
theorem dJ11_compare_15 : decode cJ11_compare 15 = .ok (.goto 4, 3) := dk_167 0 4 (dk_at dksJ11_compare_0 15 rfl rfl)
theorem dJ11_compare_18 : decode cJ11_compare 18 = .ok (.iconst 1, 1) := dk_4 (dk_at dksJ11_compare_0 18 rfl rfl)
theorem dJ11_compare_19 : decode cJ11_compare 19 = .ok (.ireturn, 1) := dk_172 (dk_at dksJ11_compare_0 19 rfl rfl)
theorem q45 : (Jvm.Cond.initialized "java/lang/Integer") ∈ lw_all := lw_g (lw_at lw_m1 18 rfl) rfl
theorem q518 : (Jvm.Cond.static ({ cls := "java/lang/Integer", name := "compare", desc := "(II)I" } : Jvm.MethodName)) ∈ lw_all := lw_g (lw_at lw_m3 11 rfl) rfl
theorem q519 : (Jvm.Cond.code ({ cls := "java/lang/Integer", name := "compare", desc := "(II)I" } : Jvm.MethodName) prog_12_method_40_code (2 : Nat) (Option.some Jvm.ClassFile.FieldType.int)) ∈ lw_all := lw_g (lw_at lw_m3 12 rfl) rfl
/-! java/lang/Object -/
set_option maxRecDepth 100000
def RJ12 : String := "java/lang/Object"
abbrev cJ12_init : ByteArray := object_method_1_code
def yJ12_init : MethodName := ⟨RJ12, "<init>", "()V"⟩
theorem dJ12_init_0 : decode cJ12_init 0 = .ok (.return_, 1) := by decide +kernel
theorem q52 : (Jvm.Cond.instanceMethod ({ cls := "java/lang/Object", name := "<init>", desc := "()V" } : Jvm.MethodName)) ∈ lw_all := lw_g (lw_at lw_m1 25 rfl) rfl
theorem q53 : (Jvm.Cond.code ({ cls := "java/lang/Object", name := "<init>", desc := "()V" } : Jvm.MethodName) object_method_1_code (1 : Nat) (Option.none : Option Jvm.ClassFile.FieldType)) ∈ lw_all := lw_g (lw_at lw_m1 26 rfl) rfl
theorem q39 : (Jvm.Cond.initialized "java/lang/System") ∈ lw_all := lw_g (lw_at lw_m1 12 rfl) rfl
set_option maxRecDepth 100000
theorem q282 : (Jvm.Cond.static ({ cls := "java/lang/System", name := "arraycopy", desc := "(Ljava/lang/Object;ILjava/lang/Object;II)V" } : Jvm.MethodName)) ∈ lw_all := lw_g (lw_at lw_m2 15 rfl) rfl
theorem q283 : (Jvm.Cond.native ({ cls := "java/lang/System", name := "arraycopy", desc := "(Ljava/lang/Object;ILjava/lang/Object;II)V" } : Jvm.MethodName)) ∈ lw_all := lw_g (lw_at lw_m2 16 rfl) rfl
theorem q73 : (Jvm.Cond.arrayClass Jvm.ClassFile.FieldType.int) ∈ lw_all := lw_g (lw_at lw_m1 46 rfl) rfl
set_option maxRecDepth 100000
theorem q75 : (Jvm.Cond.arrayOver (Jvm.ClassFile.FieldType.object "ArrayMaker$Seen")) ∈ lw_tbl := lw_at lw_m1 48 rfl
theorem q91 : (Jvm.Cond.arrayClass Jvm.ClassFile.FieldType.long) ∈ lw_all := lw_g (lw_at lw_m1 64 rfl) rfl
theorem q224 : (Jvm.Cond.arrayClass Jvm.ClassFile.FieldType.byte) ∈ lw_all := lw_g (lw_at lw_m1 197 rfl) rfl
theorem q267 : (Jvm.Cond.arrayOver (Jvm.ClassFile.FieldType.array Jvm.ClassFile.FieldType.int)) ∈ lw_tbl := lw_at lw_m2 0 rfl
theorem q272 : (Jvm.Cond.arrayOver (Jvm.ClassFile.FieldType.object "ArrayMaker$Box")) ∈ lw_tbl := lw_at lw_m2 5 rfl
theorem q607 : (Jvm.Cond.arrayClass Jvm.ClassFile.FieldType.boolean) ∈ lw_all := lw_g (lw_at lw_m3 100 rfl) rfl
theorem q27 : (Jvm.Cond.initialized "ArrayMakerLaw") ∈ lw_all := lw_g (lw_at lw_m1 0 rfl) rfl
set_option maxRecDepth 100000
theorem q46 : (Jvm.Cond.classLink "ArrayMakerLaw" (7 : Nat) "ArrayMaker") ∈ lw_all := lw_g (lw_at lw_m1 19 rfl) rfl
theorem q48 : (Jvm.Cond.methodLink "ArrayMakerLaw" (9 : Nat) ({ cls := "ArrayMaker", name := "<init>", desc := "()V" } : Jvm.MethodName)) ∈ lw_all := lw_g (lw_at lw_m1 21 rfl) rfl
theorem q126 : (Jvm.Cond.methodLink "ArrayMakerLaw" (13 : Nat) ({ cls := "ArrayMaker", name := "code", desc := "()I" } : Jvm.MethodName)) ∈ lw_all := lw_g (lw_at lw_m1 99 rfl) rfl
theorem q130 : (Jvm.Cond.methodLink "ArrayMakerLaw" (18 : Nat) ({ cls := "ArrayMaker", name := "which", desc := "()I" } : Jvm.MethodName)) ∈ lw_all := lw_g (lw_at lw_m1 103 rfl) rfl
theorem q134 : (Jvm.Cond.methodLink "ArrayMakerLaw" (22 : Nat) ({ cls := "ArrayMaker", name := "range", desc := "(II)I" } : Jvm.MethodName)) ∈ lw_all := lw_g (lw_at lw_m1 107 rfl) rfl
theorem q237 : (Jvm.Cond.methodLink "ArrayMakerLaw" (27 : Nat) ({ cls := "ArrayMaker", name := "shapeless", desc := "()I" } : Jvm.MethodName)) ∈ lw_all := lw_g (lw_at lw_m1 210 rfl) rfl
theorem q241 : (Jvm.Cond.methodLink "ArrayMakerLaw" (31 : Nat) ({ cls := "ArrayMaker", name := "make", desc := "(I)I" } : Jvm.MethodName)) ∈ lw_all := lw_g (lw_at lw_m1 214 rfl) rfl
theorem q284 : (Jvm.Cond.methodLink "ArrayMakerLaw" (36 : Nat) ({ cls := "ArrayMaker", name := "raw", desc := "(II)I" } : Jvm.MethodName)) ∈ lw_all := lw_g (lw_at lw_m2 17 rfl) rfl
theorem q302 : (Jvm.Cond.methodLink "ArrayMakerLaw" (40 : Nat) ({ cls := "ArrayMaker", name := "see", desc := "(I)I" } : Jvm.MethodName)) ∈ lw_all := lw_g (lw_at lw_m2 35 rfl) rfl
theorem q320 : (Jvm.Cond.methodLink "ArrayMakerLaw" (44 : Nat) ({ cls := "ArrayMaker", name := "turn", desc := "(I)I" } : Jvm.MethodName)) ∈ lw_all := lw_g (lw_at lw_m2 53 rfl) rfl
theorem q340 : (Jvm.Cond.methodLink "ArrayMakerLaw" (48 : Nat) ({ cls := "ArrayMaker", name := "cut", desc := "(I)I" } : Jvm.MethodName)) ∈ lw_all := lw_g (lw_at lw_m2 73 rfl) rfl
theorem q356 : (Jvm.Cond.methodLink "ArrayMakerLaw" (52 : Nat) ({ cls := "ArrayMaker", name := "deep", desc := "(I)I" } : Jvm.MethodName)) ∈ lw_all := lw_g (lw_at lw_m2 89 rfl) rfl
theorem q374 : (Jvm.Cond.methodLink "ArrayMakerLaw" (56 : Nat) ({ cls := "ArrayMaker", name := "flat", desc := "(I)I" } : Jvm.MethodName)) ∈ lw_all := lw_g (lw_at lw_m2 107 rfl) rfl
theorem q403 : (Jvm.Cond.methodLink "ArrayMakerLaw" (60 : Nat) ({ cls := "ArrayMaker", name := "ragged", desc := "(III)I" } : Jvm.MethodName)) ∈ lw_all := lw_g (lw_at lw_m2 136 rfl) rfl
theorem q408 : (Jvm.Cond.methodLink "ArrayMakerLaw" (65 : Nat) ({ cls := "ArrayMaker", name := "without", desc := "(II)I" } : Jvm.MethodName)) ∈ lw_all := lw_g (lw_at lw_m2 141 rfl) rfl
theorem q412 : (Jvm.Cond.methodLink "ArrayMakerLaw" (69 : Nat) ({ cls := "ArrayMaker", name := "tie", desc := "(IIII)I" } : Jvm.MethodName)) ∈ lw_all := lw_g (lw_at lw_m2 145 rfl) rfl
theorem q416 : (Jvm.Cond.methodLink "ArrayMakerLaw" (74 : Nat) ({ cls := "ArrayMaker", name := "get", desc := "(IIII)J" } : Jvm.MethodName)) ∈ lw_all := lw_g (lw_at lw_m2 149 rfl) rfl
theorem q430 : (Jvm.Cond.methodLink "ArrayMakerLaw" (81 : Nat) ({ cls := "ArrayMaker", name := "put", desc := "(IIIIJ)I" } : Jvm.MethodName)) ∈ lw_all := lw_g (lw_at lw_m2 163 rfl) rfl
theorem q447 : (Jvm.Cond.methodLink "ArrayMakerLaw" (86 : Nat) ({ cls := "ArrayMaker", name := "empty", desc := "(IIII)I" } : Jvm.MethodName)) ∈ lw_all := lw_g (lw_at lw_m2 180 rfl) rfl
theorem q451 : (Jvm.Cond.methodLink "ArrayMakerLaw" (90 : Nat) ({ cls := "ArrayMaker", name := "pair", desc := "(IIIJ)I" } : Jvm.MethodName)) ∈ lw_all := lw_g (lw_at lw_m2 184 rfl) rfl
theorem q455 : (Jvm.Cond.methodLink "ArrayMakerLaw" (95 : Nat) ({ cls := "ArrayMaker", name := "gather", desc := "(II)I" } : Jvm.MethodName)) ∈ lw_all := lw_g (lw_at lw_m2 188 rfl) rfl
theorem q481 : (Jvm.Cond.methodLink "ArrayMakerLaw" (99 : Nat) ({ cls := "ArrayMaker", name := "join", desc := "(III)I" } : Jvm.MethodName)) ∈ lw_all := lw_g (lw_at lw_m2 214 rfl) rfl
theorem q485 : (Jvm.Cond.methodLink "ArrayMakerLaw" (103 : Nat) ({ cls := "ArrayMaker", name := "sum", desc := "(I)J" } : Jvm.MethodName)) ∈ lw_all := lw_g (lw_at lw_m2 218 rfl) rfl
theorem q492 : (Jvm.Cond.methodLink "ArrayMakerLaw" (108 : Nat) ({ cls := "ArrayMaker", name := "mean", desc := "(I)J" } : Jvm.MethodName)) ∈ lw_all := lw_g (lw_at lw_m2 225 rfl) rfl
theorem q496 : (Jvm.Cond.methodLink "ArrayMakerLaw" (112 : Nat) ({ cls := "ArrayMaker", name := "about", desc := "(II)I" } : Jvm.MethodName)) ∈ lw_all := lw_g (lw_at lw_m2 229 rfl) rfl
theorem q503 : (Jvm.Cond.methodLink "ArrayMakerLaw" (116 : Nat) ({ cls := "ArrayMaker", name := "same", desc := "(II)I" } : Jvm.MethodName)) ∈ lw_all := lw_g (lw_at lw_m2 236 rfl) rfl
theorem q510 : (Jvm.Cond.methodLink "ArrayMakerLaw" (120 : Nat) ({ cls := "ArrayMaker", name := "compare", desc := "(II)I" } : Jvm.MethodName)) ∈ lw_all := lw_g (lw_at lw_m3 3 rfl) rfl
theorem q520 : (Jvm.Cond.methodLink "ArrayMakerLaw" (124 : Nat) ({ cls := "ArrayMaker", name := "clear", desc := "()I" } : Jvm.MethodName)) ∈ lw_all := lw_g (lw_at lw_m3 13 rfl) rfl
theorem q524 : (Jvm.Cond.classLink "ArrayMakerLaw" (10 : Nat) "ArrayMakerModel") ∈ lw_all := lw_g (lw_at lw_m3 17 rfl) rfl
theorem q526 : (Jvm.Cond.methodLink "ArrayMakerLaw" (12 : Nat) ({ cls := "ArrayMakerModel", name := "<init>", desc := "()V" } : Jvm.MethodName)) ∈ lw_all := lw_g (lw_at lw_m3 19 rfl) rfl
theorem q608 : (Jvm.Cond.methodLink "ArrayMakerLaw" (17 : Nat) ({ cls := "ArrayMakerModel", name := "code", desc := "()I" } : Jvm.MethodName)) ∈ lw_all := lw_g (lw_at lw_m3 101 rfl) rfl
theorem q612 : (Jvm.Cond.methodLink "ArrayMakerLaw" (21 : Nat) ({ cls := "ArrayMakerModel", name := "which", desc := "()I" } : Jvm.MethodName)) ∈ lw_all := lw_g (lw_at lw_m3 105 rfl) rfl
theorem q616 : (Jvm.Cond.methodLink "ArrayMakerLaw" (26 : Nat) ({ cls := "ArrayMakerModel", name := "range", desc := "(II)I" } : Jvm.MethodName)) ∈ lw_all := lw_g (lw_at lw_m3 109 rfl) rfl
theorem q628 : (Jvm.Cond.methodLink "ArrayMakerLaw" (30 : Nat) ({ cls := "ArrayMakerModel", name := "shapeless", desc := "()I" } : Jvm.MethodName)) ∈ lw_all := lw_g (lw_at lw_m3 121 rfl) rfl
theorem q632 : (Jvm.Cond.methodLink "ArrayMakerLaw" (35 : Nat) ({ cls := "ArrayMakerModel", name := "make", desc := "(I)I" } : Jvm.MethodName)) ∈ lw_all := lw_g (lw_at lw_m3 125 rfl) rfl
theorem q666 : (Jvm.Cond.methodLink "ArrayMakerLaw" (39 : Nat) ({ cls := "ArrayMakerModel", name := "raw", desc := "(II)I" } : Jvm.MethodName)) ∈ lw_all := lw_g (lw_at lw_m3 159 rfl) rfl
theorem q671 : (Jvm.Cond.methodLink "ArrayMakerLaw" (43 : Nat) ({ cls := "ArrayMakerModel", name := "see", desc := "(I)I" } : Jvm.MethodName)) ∈ lw_all := lw_g (lw_at lw_m3 164 rfl) rfl
theorem q683 : (Jvm.Cond.methodLink "ArrayMakerLaw" (47 : Nat) ({ cls := "ArrayMakerModel", name := "turn", desc := "(I)I" } : Jvm.MethodName)) ∈ lw_all := lw_g (lw_at lw_m3 176 rfl) rfl
theorem q691 : (Jvm.Cond.methodLink "ArrayMakerLaw" (51 : Nat) ({ cls := "ArrayMakerModel", name := "cut", desc := "(I)I" } : Jvm.MethodName)) ∈ lw_all := lw_g (lw_at lw_m3 184 rfl) rfl
theorem q706 : (Jvm.Cond.methodLink "ArrayMakerLaw" (55 : Nat) ({ cls := "ArrayMakerModel", name := "deep", desc := "(I)I" } : Jvm.MethodName)) ∈ lw_all := lw_g (lw_at lw_m3 199 rfl) rfl
theorem q710 : (Jvm.Cond.methodLink "ArrayMakerLaw" (59 : Nat) ({ cls := "ArrayMakerModel", name := "flat", desc := "(I)I" } : Jvm.MethodName)) ∈ lw_all := lw_g (lw_at lw_m3 203 rfl) rfl
theorem q718 : (Jvm.Cond.methodLink "ArrayMakerLaw" (64 : Nat) ({ cls := "ArrayMakerModel", name := "ragged", desc := "(III)I" } : Jvm.MethodName)) ∈ lw_all := lw_g (lw_at lw_m3 211 rfl) rfl
theorem q730 : (Jvm.Cond.methodLink "ArrayMakerLaw" (68 : Nat) ({ cls := "ArrayMakerModel", name := "without", desc := "(II)I" } : Jvm.MethodName)) ∈ lw_all := lw_g (lw_at lw_m3 223 rfl) rfl
theorem q734 : (Jvm.Cond.methodLink "ArrayMakerLaw" (73 : Nat) ({ cls := "ArrayMakerModel", name := "tie", desc := "(IIII)I" } : Jvm.MethodName)) ∈ lw_all := lw_g (lw_at lw_m3 227 rfl) rfl
theorem q738 : (Jvm.Cond.methodLink "ArrayMakerLaw" (78 : Nat) ({ cls := "ArrayMakerModel", name := "get", desc := "(IIII)J" } : Jvm.MethodName)) ∈ lw_all := lw_g (lw_at lw_m3 231 rfl) rfl
theorem q746 : (Jvm.Cond.methodLink "ArrayMakerLaw" (85 : Nat) ({ cls := "ArrayMakerModel", name := "put", desc := "(IIIIJ)I" } : Jvm.MethodName)) ∈ lw_all := lw_g (lw_at lw_m3 239 rfl) rfl
theorem q760 : (Jvm.Cond.methodLink "ArrayMakerLaw" (89 : Nat) ({ cls := "ArrayMakerModel", name := "empty", desc := "(IIII)I" } : Jvm.MethodName)) ∈ lw_all := lw_g (lw_at lw_m4 13 rfl) rfl
theorem q764 : (Jvm.Cond.methodLink "ArrayMakerLaw" (94 : Nat) ({ cls := "ArrayMakerModel", name := "pair", desc := "(IIIJ)I" } : Jvm.MethodName)) ∈ lw_all := lw_g (lw_at lw_m4 17 rfl) rfl
theorem q768 : (Jvm.Cond.methodLink "ArrayMakerLaw" (98 : Nat) ({ cls := "ArrayMakerModel", name := "gather", desc := "(II)I" } : Jvm.MethodName)) ∈ lw_all := lw_g (lw_at lw_m4 21 rfl) rfl
theorem q778 : (Jvm.Cond.methodLink "ArrayMakerLaw" (102 : Nat) ({ cls := "ArrayMakerModel", name := "join", desc := "(III)I" } : Jvm.MethodName)) ∈ lw_all := lw_g (lw_at lw_m4 31 rfl) rfl
theorem q782 : (Jvm.Cond.methodLink "ArrayMakerLaw" (107 : Nat) ({ cls := "ArrayMakerModel", name := "sum", desc := "(I)J" } : Jvm.MethodName)) ∈ lw_all := lw_g (lw_at lw_m4 35 rfl) rfl
theorem q790 : (Jvm.Cond.methodLink "ArrayMakerLaw" (111 : Nat) ({ cls := "ArrayMakerModel", name := "mean", desc := "(I)J" } : Jvm.MethodName)) ∈ lw_all := lw_g (lw_at lw_m4 43 rfl) rfl
theorem q794 : (Jvm.Cond.methodLink "ArrayMakerLaw" (115 : Nat) ({ cls := "ArrayMakerModel", name := "about", desc := "(II)I" } : Jvm.MethodName)) ∈ lw_all := lw_g (lw_at lw_m4 47 rfl) rfl
theorem q799 : (Jvm.Cond.methodLink "ArrayMakerLaw" (119 : Nat) ({ cls := "ArrayMakerModel", name := "same", desc := "(II)I" } : Jvm.MethodName)) ∈ lw_all := lw_g (lw_at lw_m4 52 rfl) rfl
theorem q803 : (Jvm.Cond.methodLink "ArrayMakerLaw" (123 : Nat) ({ cls := "ArrayMakerModel", name := "compare", desc := "(II)I" } : Jvm.MethodName)) ∈ lw_all := lw_g (lw_at lw_m4 56 rfl) rfl
theorem q807 : (Jvm.Cond.methodLink "ArrayMakerLaw" (127 : Nat) ({ cls := "ArrayMakerModel", name := "clear", desc := "()I" } : Jvm.MethodName)) ∈ lw_all := lw_g (lw_at lw_m4 60 rfl) rfl
theorem q811 : (Jvm.Cond.constantLong "ArrayMakerLaw" (79 : Nat) (4294967295 : Int64)) ∈ lw_all := lw_g (lw_at lw_m4 64 rfl) rfl
