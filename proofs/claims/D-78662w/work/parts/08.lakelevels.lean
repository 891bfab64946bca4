/-! LakeLevels -/
set_option maxRecDepth 100000
def RX1 : String := "LakeLevels"
def TX1 : u_T := fun k => match k with
  | 0 => ("LakeLevels", "state", "LLakeLevels$State;", false)
  | 1 => ("LakeLevels", "saved", "Ljava/util/ArrayDeque;", true)
  | 2 => ("LakeLevels", "text", "[B", true)
  | _ => ("LakeLevels", "textLength", "I", false)
def tyX1 : Nat → FieldType := fun k => match k with
  | 0 => .object "LakeLevels$State"
  | 1 => .object "java/util/ArrayDeque"
  | 2 => .array .byte
  | _ => .int
abbrev wsX10 : List Cond := u_ws RX1 TX1 4
theorem nmX1 : ∀ a, a < 4 → ∀ b, b < 4 → a ≠ b → (TX1 a).2.1 ≠ (TX1 b).2.1 := by decide +kernel
theorem tyX1_ok : ∀ k, k < 4 → parseFieldDescriptor (TX1 k).2.2.1 = some (tyX1 k) := by decide +kernel
abbrev cX1_init : ByteArray := prog_1_method_8_code
def yX1_init : MethodName := ⟨RX1, "<init>", "()V"⟩
def dkwX1_init_1 : List UInt8 := [89, 183, 0, 47, 181, 0, 48, 42, 17, 0, 150, 188, 8, 181, 0, 52, 177]
abbrev dktX1_init_1 : List UInt8 := dkwX1_init_1 ++ []
def dkwX1_init_0 : List UInt8 := [42, 183, 0, 25, 42, 187, 0, 30, 89, 4, 4, 183, 0, 32, 184, 0, 35, 181, 0, 41, 42, 187, 0, 45]
abbrev dktX1_init_0 : List UInt8 := dkwX1_init_0 ++ dktX1_init_1
theorem dksX1_init_0 : cX1_init.data.toList.drop 0 = dktX1_init_0 := by decide +kernel
theorem dksX1_init_1 : cX1_init.data.toList.drop 24 = dktX1_init_1 := dk_seg dksX1_init_0 24 rfl rfl
theorem dX1_init_0 : decode cX1_init 0 = .ok (.aload_n 0, 1) := dk_42 (dk_at dksX1_init_0 0 rfl rfl)
theorem dX1_init_1 : decode cX1_init 1 = .ok (.invokespecial 25, 3) := dk_183 0 25 (dk_at dksX1_init_0 1 rfl rfl)
theorem dX1_init_4 : decode cX1_init 4 = .ok (.aload_n 0, 1) := dk_42 (dk_at dksX1_init_0 4 rfl rfl)
theorem dX1_init_5 : decode cX1_init 5 = .ok (.new 30, 3) := dk_187 0 30 (dk_at dksX1_init_0 5 rfl rfl)
theorem dX1_init_8 : decode cX1_init 8 = .ok (.dup, 1) := dk_89 (dk_at dksX1_init_0 8 rfl rfl)
theorem dX1_init_9 : decode cX1_init 9 = .ok (.iconst 1, 1) := dk_4 (dk_at dksX1_init_0 9 rfl rfl)
theorem dX1_init_10 : decode cX1_init 10 = .ok (.iconst 1, 1) := dk_4 (dk_at dksX1_init_0 10 rfl rfl)
theorem dX1_init_11 : decode cX1_init 11 = .ok (.invokespecial 32, 3) := dk_183 0 32 (dk_at dksX1_init_0 11 rfl rfl)
theorem dX1_init_14 : decode cX1_init 14 = .ok (.invokestatic 35, 3) := dk_184 0 35 (dk_at dksX1_init_0 14 rfl rfl)
theorem dX1_init_17 : decode cX1_init 17 = .ok (.putfield 41, 3) := dk_181 0 41 (dk_at dksX1_init_0 17 rfl rfl)
theorem dX1_init_20 : decode cX1_init 20 = .ok (.aload_n 0, 1) := dk_42 (dk_at dksX1_init_0 20 rfl rfl)
theorem dX1_init_21 : decode cX1_init 21 = .ok (.new 45, 3) := dk_187 0 45 (dk_at dksX1_init_0 21 rfl rfl)
theorem dX1_init_24 : decode cX1_init 24 = .ok (.dup, 1) := dk_89 (dk_at dksX1_init_1 0 rfl rfl)
theorem dX1_init_25 : decode cX1_init 25 = .ok (.invokespecial 47, 3) := dk_183 0 47 (dk_at dksX1_init_1 1 rfl rfl)
theorem dX1_init_28 : decode cX1_init 28 = .ok (.putfield 48, 3) := dk_181 0 48 (dk_at dksX1_init_1 4 rfl rfl)
theorem dX1_init_31 : decode cX1_init 31 = .ok (.aload_n 0, 1) := dk_42 (dk_at dksX1_init_1 7 rfl rfl)
theorem dX1_init_32 : decode cX1_init 32 = .ok (.sipush 150, 3) := dk_17 0 150 (dk_at dksX1_init_1 8 rfl rfl)
theorem dX1_init_35 : decode cX1_init 35 = .ok (.newarray .byte, 2) := dk_188_8 (dk_at dksX1_init_1 11 rfl rfl)
theorem dX1_init_37 : decode cX1_init 37 = .ok (.putfield 52, 3) := dk_181 0 52 (dk_at dksX1_init_1 13 rfl rfl)
theorem dX1_init_40 : decode cX1_init 40 = .ok (.return_, 1) := dk_177 (dk_at dksX1_init_1 16 rfl rfl)
abbrev cX1_dry : ByteArray := prog_1_method_9_code
def yX1_dry : MethodName := ⟨RX1, "dry", "(LLakeLevels$Land;)LLakeLevels$State;"⟩
def dkwX1_dry_0 : List UInt8 := [187, 0, 56, 89, 42, 183, 0, 58, 76, 43, 182, 0, 61, 43, 176]
abbrev dktX1_dry_0 : List UInt8 := dkwX1_dry_0 ++ []
theorem dksX1_dry_0 : cX1_dry.data.toList.drop 0 = dktX1_dry_0 := by decide +kernel
theorem dX1_dry_0 : decode cX1_dry 0 = .ok (.new 56, 3) := dk_187 0 56 (dk_at dksX1_dry_0 0 rfl rfl)
theorem dX1_dry_3 : decode cX1_dry 3 = .ok (.dup, 1) := dk_89 (dk_at dksX1_dry_0 3 rfl rfl)
theorem dX1_dry_4 : decode cX1_dry 4 = .ok (.aload_n 0, 1) := dk_42 (dk_at dksX1_dry_0 4 rfl rfl)
theorem dX1_dry_5 : decode cX1_dry 5 = .ok (.invokespecial 58, 3) := dk_183 0 58 (dk_at dksX1_dry_0 5 rfl rfl)
theorem dX1_dry_8 : decode cX1_dry 8 = .ok (.astore_n 1, 1) := dk_76 (dk_at dksX1_dry_0 8 rfl rfl)
theorem dX1_dry_9 : decode cX1_dry 9 = .ok (.aload_n 1, 1) := dk_43 (dk_at dksX1_dry_0 9 rfl rfl)
theorem dX1_dry_10 : decode cX1_dry 10 = .ok (.invokevirtual 61, 3) := dk_182 0 61 (dk_at dksX1_dry_0 10 rfl rfl)
theorem dX1_dry_13 : decode cX1_dry 13 = .ok (.aload_n 1, 1) := dk_43 (dk_at dksX1_dry_0 13 rfl rfl)
theorem dX1_dry_14 : decode cX1_dry 14 = .ok (.areturn, 1) := dk_176 (dk_at dksX1_dry_0 14 rfl rfl)
abbrev cX1_has : ByteArray := prog_1_method_5_code
def yX1_has : MethodName := ⟨RX1, "has", "(JI)Z"⟩
def dkwX1_has_0 : List UInt8 := [30, 28, 123, 10, 127, 10, 148, 154, 0, 7, 4, 167, 0, 4, 3, 172]
abbrev dktX1_has_0 : List UInt8 := dkwX1_has_0 ++ []
theorem dksX1_has_0 : cX1_has.data.toList.drop 0 = dktX1_has_0 := by decide +kernel
theorem dX1_has_0 : decode cX1_has 0 = .ok (.lload_n 0, 1) := dk_30 (dk_at dksX1_has_0 0 rfl rfl)
theorem dX1_has_1 : decode cX1_has 1 = .ok (.iload_n 2, 1) := dk_28 (dk_at dksX1_has_0 1 rfl rfl)
theorem dX1_has_2 : decode cX1_has 2 = .ok (.lshr, 1) := dk_123 (dk_at dksX1_has_0 2 rfl rfl)
theorem dX1_has_3 : decode cX1_has 3 = .ok (.lconst 1, 1) := dk_10 (dk_at dksX1_has_0 3 rfl rfl)
theorem dX1_has_4 : decode cX1_has 4 = .ok (.land, 1) := dk_127 (dk_at dksX1_has_0 4 rfl rfl)
theorem dX1_has_5 : decode cX1_has 5 = .ok (.lconst 1, 1) := dk_10 (dk_at dksX1_has_0 5 rfl rfl)
theorem dX1_has_6 : decode cX1_has 6 = .ok (.lcmp, 1) := dk_148 (dk_at dksX1_has_0 6 rfl rfl)
theorem dX1_has_7 : decode cX1_has 7 = .ok (.ifCond .ne 7, 3) := dk_154 0 7 (dk_at dksX1_has_0 7 rfl rfl)
theorem dX1_has_10 : decode cX1_has 10 = .ok (.iconst 1, 1) := dk_4 (dk_at dksX1_has_0 10 rfl rfl)
theorem dX1_has_11 : decode cX1_has 11 = .ok (.goto 4, 3) := dk_167 0 4 (dk_at dksX1_has_0 11 rfl rfl)
theorem dX1_has_14 : decode cX1_has 14 = .ok (.iconst 0, 1) := dk_3 (dk_at dksX1_has_0 14 rfl rfl)
theorem dX1_has_15 : decode cX1_has 15 = .ok (.ireturn, 1) := dk_172 (dk_at dksX1_has_0 15 rfl rfl)
abbrev cX1_lowest : ByteArray := prog_1_method_6_code
def yX1_lowest : MethodName := ⟨RX1, "lowest", "(J)I"⟩
theorem dX1_lowest_0 : decode cX1_lowest 0 = .ok (.lload_n 0, 1) := by decide +kernel
theorem dX1_lowest_1 : decode cX1_lowest 1 = .ok (.invokestatic 19, 3) := by decide +kernel
theorem dX1_lowest_4 : decode cX1_lowest 4 = .ok (.ireturn, 1) := by decide +kernel
abbrev cX1_deepest : ByteArray := prog_1_method_34_code
def yX1_deepest : MethodName := ⟨RX1, "deepest", "()I"⟩
def dkwX1_deepest_2 : List UInt8 := [25, 4, 4, 46, 133, 105, 148, 158, 0, 8, 29, 60, 25, 4, 77, 132, 3, 1, 167, 255, 206, 27, 172]
abbrev dktX1_deepest_2 : List UInt8 := dkwX1_deepest_2 ++ []
def dkwX1_deepest_1 : List UInt8 := [162, 0, 45, 42, 29, 182, 1, 2, 58, 4, 25, 4, 3, 46, 133, 44, 4, 46, 133, 105, 44, 3, 46, 133]
abbrev dktX1_deepest_1 : List UInt8 := dkwX1_deepest_1 ++ dktX1_deepest_2
def dkwX1_deepest_0 : List UInt8 := [2, 60, 5, 188, 10, 89, 3, 3, 79, 89, 4, 4, 79, 77, 3, 62, 29, 42, 182, 0, 84, 182, 0, 87]
abbrev dktX1_deepest_0 : List UInt8 := dkwX1_deepest_0 ++ dktX1_deepest_1
theorem dksX1_deepest_0 : cX1_deepest.data.toList.drop 0 = dktX1_deepest_0 := by decide +kernel
theorem dksX1_deepest_1 : cX1_deepest.data.toList.drop 24 = dktX1_deepest_1 := dk_seg dksX1_deepest_0 24 rfl rfl
theorem dksX1_deepest_2 : cX1_deepest.data.toList.drop 48 = dktX1_deepest_2 := dk_seg dksX1_deepest_1 24 rfl rfl
theorem dX1_deepest_0 : decode cX1_deepest 0 = .ok (.iconst (-1), 1) := dk_2 (dk_at dksX1_deepest_0 0 rfl rfl)
theorem dX1_deepest_1 : decode cX1_deepest 1 = .ok (.istore_n 1, 1) := dk_60 (dk_at dksX1_deepest_0 1 rfl rfl)
theorem dX1_deepest_2 : decode cX1_deepest 2 = .ok (.iconst 2, 1) := dk_5 (dk_at dksX1_deepest_0 2 rfl rfl)
theorem dX1_deepest_3 : decode cX1_deepest 3 = .ok (.newarray .int, 2) := dk_188_10 (dk_at dksX1_deepest_0 3 rfl rfl)
theorem dX1_deepest_5 : decode cX1_deepest 5 = .ok (.dup, 1) := dk_89 (dk_at dksX1_deepest_0 5 rfl rfl)
theorem dX1_deepest_6 : decode cX1_deepest 6 = .ok (.iconst 0, 1) := dk_3 (dk_at dksX1_deepest_0 6 rfl rfl)
theorem dX1_deepest_7 : decode cX1_deepest 7 = .ok (.iconst 0, 1) := dk_3 (dk_at dksX1_deepest_0 7 rfl rfl)
theorem dX1_deepest_8 : decode cX1_deepest 8 = .ok (.iastore, 1) := dk_79 (dk_at dksX1_deepest_0 8 rfl rfl)
theorem dX1_deepest_9 : decode cX1_deepest 9 = .ok (.dup, 1) := dk_89 (dk_at dksX1_deepest_0 9 rfl rfl)
theorem dX1_deepest_10 : decode cX1_deepest 10 = .ok (.iconst 1, 1) := dk_4 (dk_at dksX1_deepest_0 10 rfl rfl)
theorem dX1_deepest_11 : decode cX1_deepest 11 = .ok (.iconst 1, 1) := dk_4 (dk_at dksX1_deepest_0 11 rfl rfl)
theorem dX1_deepest_12 : decode cX1_deepest 12 = .ok (.iastore, 1) := dk_79 (dk_at dksX1_deepest_0 12 rfl rfl)
theorem dX1_deepest_13 : decode cX1_deepest 13 = .ok (.astore_n 2, 1) := dk_77 (dk_at dksX1_deepest_0 13 rfl rfl)
theorem dX1_deepest_14 : decode cX1_deepest 14 = .ok (.iconst 0, 1) := dk_3 (dk_at dksX1_deepest_0 14 rfl rfl)
theorem dX1_deepest_15 : decode cX1_deepest 15 = .ok (.istore_n 3, 1) := dk_62 (dk_at dksX1_deepest_0 15 rfl rfl)
theorem dX1_deepest_16 : decode cX1_deepest 16 = .ok (.iload_n 3, 1) := dk_29 (dk_at dksX1_deepest_0 16 rfl rfl)
theorem dX1_deepest_17 : decode cX1_deepest 17 = .ok (.aload_n 0, 1) := dk_42 (dk_at dksX1_deepest_0 17 rfl rfl)
theorem dX1_deepest_18 : decode cX1_deepest 18 = .ok (.invokevirtual 84, 3) := dk_182 0 84 (dk_at dksX1_deepest_0 18 rfl rfl)
theorem dX1_deepest_21 : decode cX1_deepest 21 = .ok (.invokevirtual 87, 3) := dk_182 0 87 (dk_at dksX1_deepest_0 21 rfl rfl)
theorem dX1_deepest_24 : decode cX1_deepest 24 = .ok (.if_icmp .ge 45, 3) := dk_162 0 45 (dk_at dksX1_deepest_1 0 rfl rfl)
theorem dX1_deepest_27 : decode cX1_deepest 27 = .ok (.aload_n 0, 1) := dk_42 (dk_at dksX1_deepest_1 3 rfl rfl)
theorem dX1_deepest_28 : decode cX1_deepest 28 = .ok (.iload_n 3, 1) := dk_29 (dk_at dksX1_deepest_1 4 rfl rfl)
theorem dX1_deepest_29 : decode cX1_deepest 29 = .ok (.invokevirtual 258, 3) := dk_182 1 2 (dk_at dksX1_deepest_1 5 rfl rfl)
theorem dX1_deepest_32 : decode cX1_deepest 32 = .ok (.astore 4, 2) := dk_58 4 (dk_at dksX1_deepest_1 8 rfl rfl)
theorem dX1_deepest_34 : decode cX1_deepest 34 = .ok (.aload 4, 2) := dk_25 4 (dk_at dksX1_deepest_1 10 rfl rfl)
theorem dX1_deepest_36 : decode cX1_deepest 36 = .ok (.iconst 0, 1) := dk_3 (dk_at dksX1_deepest_1 12 rfl rfl)
theorem dX1_deepest_37 : decode cX1_deepest 37 = .ok (.iaload, 1) := dk_46 (dk_at dksX1_deepest_1 13 rfl rfl)
theorem dX1_deepest_38 : decode cX1_deepest 38 = .ok (.i2l, 1) := dk_133 (dk_at dksX1_deepest_1 14 rfl rfl)
theorem dX1_deepest_39 : decode cX1_deepest 39 = .ok (.aload_n 2, 1) := dk_44 (dk_at dksX1_deepest_1 15 rfl rfl)
theorem dX1_deepest_40 : decode cX1_deepest 40 = .ok (.iconst 1, 1) := dk_4 (dk_at dksX1_deepest_1 16 rfl rfl)
theorem dX1_deepest_41 : decode cX1_deepest 41 = .ok (.iaload, 1) := dk_46 (dk_at dksX1_deepest_1 17 rfl rfl)
theorem dX1_deepest_42 : decode cX1_deepest 42 = .ok (.i2l, 1) := dk_133 (dk_at dksX1_deepest_1 18 rfl rfl)
theorem dX1_deepest_43 : decode cX1_deepest 43 = .ok (.lmul, 1) := dk_105 (dk_at dksX1_deepest_1 19 rfl rfl)
theorem dX1_deepest_44 : decode cX1_deepest 44 = .ok (.aload_n 2, 1) := dk_44 (dk_at dksX1_deepest_1 20 rfl rfl)
theorem dX1_deepest_45 : decode cX1_deepest 45 = .ok (.iconst 0, 1) := dk_3 (dk_at dksX1_deepest_1 21 rfl rfl)
theorem dX1_deepest_46 : decode cX1_deepest 46 = .ok (.iaload, 1) := dk_46 (dk_at dksX1_deepest_1 22 rfl rfl)
theorem dX1_deepest_47 : decode cX1_deepest 47 = .ok (.i2l, 1) := dk_133 (dk_at dksX1_deepest_1 23 rfl rfl)
theorem dX1_deepest_48 : decode cX1_deepest 48 = .ok (.aload 4, 2) := dk_25 4 (dk_at dksX1_deepest_2 0 rfl rfl)
theorem dX1_deepest_50 : decode cX1_deepest 50 = .ok (.iconst 1, 1) := dk_4 (dk_at dksX1_deepest_2 2 rfl rfl)
theorem dX1_deepest_51 : decode cX1_deepest 51 = .ok (.iaload, 1) := dk_46 (dk_at dksX1_deepest_2 3 rfl rfl)
theorem dX1_deepest_52 : decode cX1_deepest 52 = .ok (.i2l, 1) := dk_133 (dk_at dksX1_deepest_2 4 rfl rfl)
theorem dX1_deepest_53 : decode cX1_deepest 53 = .ok (.lmul, 1) := dk_105 (dk_at dksX1_deepest_2 5 rfl rfl)
theorem dX1_deepest_54 : decode cX1_deepest 54 = .ok (.lcmp, 1) := dk_148 (dk_at dksX1_deepest_2 6 rfl rfl)
theorem dX1_deepest_55 : decode cX1_deepest 55 = .ok (.ifCond .le 8, 3) := dk_158 0 8 (dk_at dksX1_deepest_2 7 rfl rfl)
theorem dX1_deepest_58 : decode cX1_deepest 58 = .ok (.iload_n 3, 1) := dk_29 (dk_at dksX1_deepest_2 10 rfl rfl)
theorem dX1_deepest_59 : decode cX1_deepest 59 = .ok (.istore_n 1, 1) := dk_60 (dk_at dksX1_deepest_2 11 rfl rfl)
theorem dX1_deepest_60 : decode cX1_deepest 60 = .ok (.aload 4, 2) := dk_25 4 (dk_at dksX1_deepest_2 12 rfl rfl)
theorem dX1_deepest_62 : decode cX1_deepest 62 = .ok (.astore_n 2, 1) := dk_77 (dk_at dksX1_deepest_2 14 rfl rfl)
theorem dX1_deepest_63 : decode cX1_deepest 63 = .ok (.iinc 3 1, 3) := dk_132 3 1 (dk_at dksX1_deepest_2 15 rfl rfl)
theorem dX1_deepest_66 : decode cX1_deepest 66 = .ok (.goto (-50), 3) := dk_167 255 206 (dk_at dksX1_deepest_2 18 rfl rfl)
theorem dX1_deepest_69 : decode cX1_deepest 69 = .ok (.iload_n 1, 1) := dk_27 (dk_at dksX1_deepest_2 21 rfl rfl)
theorem dX1_deepest_70 : decode cX1_deepest 70 = .ok (.ireturn, 1) := dk_172 (dk_at dksX1_deepest_2 22 rfl rfl)
abbrev cX1_land : ByteArray := prog_1_method_11_code
def yX1_land : MethodName := ⟨RX1, "land", "()LLakeLevels$Land;"⟩
def dkwX1_land_0 : List UInt8 := [42, 180, 0, 41, 180, 0, 80, 176]
abbrev dktX1_land_0 : List UInt8 := dkwX1_land_0 ++ []
theorem dksX1_land_0 : cX1_land.data.toList.drop 0 = dktX1_land_0 := by decide +kernel
theorem dX1_land_0 : decode cX1_land 0 = .ok (.aload_n 0, 1) := dk_42 (dk_at dksX1_land_0 0 rfl rfl)
theorem dX1_land_1 : decode cX1_land 1 = .ok (.getfield 41, 3) := dk_180 0 41 (dk_at dksX1_land_0 1 rfl rfl)
theorem dX1_land_4 : decode cX1_land 4 = .ok (.getfield 80, 3) := dk_180 0 80 (dk_at dksX1_land_0 4 rfl rfl)
theorem dX1_land_7 : decode cX1_land 7 = .ok (.areturn, 1) := dk_176 (dk_at dksX1_land_0 7 rfl rfl)
abbrev cX1_depthOf : ByteArray := prog_1_method_32_code
def yX1_depthOf : MethodName := ⟨RX1, "depthOf", "(I)[I"⟩
def dkwX1_depthOf_3 : List UInt8 := [79, 176]
abbrev dktX1_depthOf_3 : List UInt8 := dkwX1_depthOf_3 ++ []
def dkwX1_depthOf_2 : List UInt8 := [42, 182, 0, 84, 3, 182, 0, 247, 42, 182, 0, 84, 180, 0, 141, 27, 46, 29, 104, 100, 79, 89, 4, 29]
abbrev dktX1_depthOf_2 : List UInt8 := dkwX1_depthOf_2 ++ dktX1_depthOf_3
def dkwX1_depthOf_1 : List UInt8 := [180, 0, 41, 27, 182, 0, 255, 77, 44, 42, 182, 0, 84, 4, 182, 0, 247, 62, 5, 188, 10, 89, 3, 44]
abbrev dktX1_depthOf_1 : List UInt8 := dkwX1_depthOf_1 ++ dktX1_depthOf_2
def dkwX1_depthOf_0 : List UInt8 := [42, 180, 0, 41, 27, 182, 0, 251, 154, 0, 15, 5, 188, 10, 89, 3, 3, 79, 89, 4, 4, 79, 176, 42]
abbrev dktX1_depthOf_0 : List UInt8 := dkwX1_depthOf_0 ++ dktX1_depthOf_1
theorem dksX1_depthOf_0 : cX1_depthOf.data.toList.drop 0 = dktX1_depthOf_0 := by decide +kernel
theorem dksX1_depthOf_1 : cX1_depthOf.data.toList.drop 24 = dktX1_depthOf_1 := dk_seg dksX1_depthOf_0 24 rfl rfl
theorem dksX1_depthOf_2 : cX1_depthOf.data.toList.drop 48 = dktX1_depthOf_2 := dk_seg dksX1_depthOf_1 24 rfl rfl
theorem dksX1_depthOf_3 : cX1_depthOf.data.toList.drop 72 = dktX1_depthOf_3 := dk_seg dksX1_depthOf_2 24 rfl rfl
theorem dX1_depthOf_0 : decode cX1_depthOf 0 = .ok (.aload_n 0, 1) := dk_42 (dk_at dksX1_depthOf_0 0 rfl rfl)
theorem dX1_depthOf_1 : decode cX1_depthOf 1 = .ok (.getfield 41, 3) := dk_180 0 41 (dk_at dksX1_depthOf_0 1 rfl rfl)
theorem dX1_depthOf_4 : decode cX1_depthOf 4 = .ok (.iload_n 1, 1) := dk_27 (dk_at dksX1_depthOf_0 4 rfl rfl)
theorem dX1_depthOf_5 : decode cX1_depthOf 5 = .ok (.invokevirtual 251, 3) := dk_182 0 251 (dk_at dksX1_depthOf_0 5 rfl rfl)
theorem dX1_depthOf_8 : decode cX1_depthOf 8 = .ok (.ifCond .ne 15, 3) := dk_154 0 15 (dk_at dksX1_depthOf_0 8 rfl rfl)
theorem dX1_depthOf_11 : decode cX1_depthOf 11 = .ok (.iconst 2, 1) := dk_5 (dk_at dksX1_depthOf_0 11 rfl rfl)
theorem dX1_depthOf_12 : decode cX1_depthOf 12 = .ok (.newarray .int, 2) := dk_188_10 (dk_at dksX1_depthOf_0 12 rfl rfl)
theorem dX1_depthOf_14 : decode cX1_depthOf 14 = .ok (.dup, 1) := dk_89 (dk_at dksX1_depthOf_0 14 rfl rfl)
theorem dX1_depthOf_15 : decode cX1_depthOf 15 = .ok (.iconst 0, 1) := dk_3 (dk_at dksX1_depthOf_0 15 rfl rfl)
theorem dX1_depthOf_16 : decode cX1_depthOf 16 = .ok (.iconst 0, 1) := dk_3 (dk_at dksX1_depthOf_0 16 rfl rfl)
theorem dX1_depthOf_17 : decode cX1_depthOf 17 = .ok (.iastore, 1) := dk_79 (dk_at dksX1_depthOf_0 17 rfl rfl)
theorem dX1_depthOf_18 : decode cX1_depthOf 18 = .ok (.dup, 1) := dk_89 (dk_at dksX1_depthOf_0 18 rfl rfl)
theorem dX1_depthOf_19 : decode cX1_depthOf 19 = .ok (.iconst 1, 1) := dk_4 (dk_at dksX1_depthOf_0 19 rfl rfl)
theorem dX1_depthOf_20 : decode cX1_depthOf 20 = .ok (.iconst 1, 1) := dk_4 (dk_at dksX1_depthOf_0 20 rfl rfl)
theorem dX1_depthOf_21 : decode cX1_depthOf 21 = .ok (.iastore, 1) := dk_79 (dk_at dksX1_depthOf_0 21 rfl rfl)
theorem dX1_depthOf_22 : decode cX1_depthOf 22 = .ok (.areturn, 1) := dk_176 (dk_at dksX1_depthOf_0 22 rfl rfl)
theorem dX1_depthOf_23 : decode cX1_depthOf 23 = .ok (.aload_n 0, 1) := dk_42 (dk_at dksX1_depthOf_0 23 rfl rfl)
theorem dX1_depthOf_24 : decode cX1_depthOf 24 = .ok (.getfield 41, 3) := dk_180 0 41 (dk_at dksX1_depthOf_1 0 rfl rfl)
theorem dX1_depthOf_27 : decode cX1_depthOf 27 = .ok (.iload_n 1, 1) := dk_27 (dk_at dksX1_depthOf_1 3 rfl rfl)
theorem dX1_depthOf_28 : decode cX1_depthOf 28 = .ok (.invokevirtual 255, 3) := dk_182 0 255 (dk_at dksX1_depthOf_1 4 rfl rfl)
theorem dX1_depthOf_31 : decode cX1_depthOf 31 = .ok (.astore_n 2, 1) := dk_77 (dk_at dksX1_depthOf_1 7 rfl rfl)
theorem dX1_depthOf_32 : decode cX1_depthOf 32 = .ok (.aload_n 2, 1) := dk_44 (dk_at dksX1_depthOf_1 8 rfl rfl)
theorem dX1_depthOf_33 : decode cX1_depthOf 33 = .ok (.aload_n 0, 1) := dk_42 (dk_at dksX1_depthOf_1 9 rfl rfl)
theorem dX1_depthOf_34 : decode cX1_depthOf 34 = .ok (.invokevirtual 84, 3) := dk_182 0 84 (dk_at dksX1_depthOf_1 10 rfl rfl)
theorem dX1_depthOf_37 : decode cX1_depthOf 37 = .ok (.iconst 1, 1) := dk_4 (dk_at dksX1_depthOf_1 13 rfl rfl)
theorem dX1_depthOf_38 : decode cX1_depthOf 38 = .ok (.invokevirtual 247, 3) := dk_182 0 247 (dk_at dksX1_depthOf_1 14 rfl rfl)
theorem dX1_depthOf_41 : decode cX1_depthOf 41 = .ok (.istore_n 3, 1) := dk_62 (dk_at dksX1_depthOf_1 17 rfl rfl)
theorem dX1_depthOf_42 : decode cX1_depthOf 42 = .ok (.iconst 2, 1) := dk_5 (dk_at dksX1_depthOf_1 18 rfl rfl)
theorem dX1_depthOf_43 : decode cX1_depthOf 43 = .ok (.newarray .int, 2) := dk_188_10 (dk_at dksX1_depthOf_1 19 rfl rfl)
theorem dX1_depthOf_45 : decode cX1_depthOf 45 = .ok (.dup, 1) := dk_89 (dk_at dksX1_depthOf_1 21 rfl rfl)
theorem dX1_depthOf_46 : decode cX1_depthOf 46 = .ok (.iconst 0, 1) := dk_3 (dk_at dksX1_depthOf_1 22 rfl rfl)
theorem dX1_depthOf_47 : decode cX1_depthOf 47 = .ok (.aload_n 2, 1) := dk_44 (dk_at dksX1_depthOf_1 23 rfl rfl)
theorem dX1_depthOf_48 : decode cX1_depthOf 48 = .ok (.aload_n 0, 1) := dk_42 (dk_at dksX1_depthOf_2 0 rfl rfl)
theorem dX1_depthOf_49 : decode cX1_depthOf 49 = .ok (.invokevirtual 84, 3) := dk_182 0 84 (dk_at dksX1_depthOf_2 1 rfl rfl)
theorem dX1_depthOf_52 : decode cX1_depthOf 52 = .ok (.iconst 0, 1) := dk_3 (dk_at dksX1_depthOf_2 4 rfl rfl)
theorem dX1_depthOf_53 : decode cX1_depthOf 53 = .ok (.invokevirtual 247, 3) := dk_182 0 247 (dk_at dksX1_depthOf_2 5 rfl rfl)
theorem dX1_depthOf_56 : decode cX1_depthOf 56 = .ok (.aload_n 0, 1) := dk_42 (dk_at dksX1_depthOf_2 8 rfl rfl)
theorem dX1_depthOf_57 : decode cX1_depthOf 57 = .ok (.invokevirtual 84, 3) := dk_182 0 84 (dk_at dksX1_depthOf_2 9 rfl rfl)
theorem dX1_depthOf_60 : decode cX1_depthOf 60 = .ok (.getfield 141, 3) := dk_180 0 141 (dk_at dksX1_depthOf_2 12 rfl rfl)
theorem dX1_depthOf_63 : decode cX1_depthOf 63 = .ok (.iload_n 1, 1) := dk_27 (dk_at dksX1_depthOf_2 15 rfl rfl)
theorem dX1_depthOf_64 : decode cX1_depthOf 64 = .ok (.iaload, 1) := dk_46 (dk_at dksX1_depthOf_2 16 rfl rfl)
theorem dX1_depthOf_65 : decode cX1_depthOf 65 = .ok (.iload_n 3, 1) := dk_29 (dk_at dksX1_depthOf_2 17 rfl rfl)
theorem dX1_depthOf_66 : decode cX1_depthOf 66 = .ok (.imul, 1) := dk_104 (dk_at dksX1_depthOf_2 18 rfl rfl)
theorem dX1_depthOf_67 : decode cX1_depthOf 67 = .ok (.isub, 1) := dk_100 (dk_at dksX1_depthOf_2 19 rfl rfl)
theorem dX1_depthOf_68 : decode cX1_depthOf 68 = .ok (.iastore, 1) := dk_79 (dk_at dksX1_depthOf_2 20 rfl rfl)
theorem dX1_depthOf_69 : decode cX1_depthOf 69 = .ok (.dup, 1) := dk_89 (dk_at dksX1_depthOf_2 21 rfl rfl)
theorem dX1_depthOf_70 : decode cX1_depthOf 70 = .ok (.iconst 1, 1) := dk_4 (dk_at dksX1_depthOf_2 22 rfl rfl)
theorem dX1_depthOf_71 : decode cX1_depthOf 71 = .ok (.iload_n 3, 1) := dk_29 (dk_at dksX1_depthOf_2 23 rfl rfl)
theorem dX1_depthOf_72 : decode cX1_depthOf 72 = .ok (.iastore, 1) := dk_79 (dk_at dksX1_depthOf_3 0 rfl rfl)
theorem dX1_depthOf_73 : decode cX1_depthOf 73 = .ok (.areturn, 1) := dk_176 (dk_at dksX1_depthOf_3 1 rfl rfl)
abbrev cX1_gcd : ByteArray := prog_1_method_7_code
def yX1_gcd : MethodName := ⟨RX1, "gcd", "(II)I"⟩
def dkwX1_gcd_0 : List UInt8 := [26, 61, 27, 62, 29, 153, 0, 16, 28, 29, 112, 54, 4, 29, 61, 21, 4, 62, 167, 255, 242, 28, 172]
abbrev dktX1_gcd_0 : List UInt8 := dkwX1_gcd_0 ++ []
theorem dksX1_gcd_0 : cX1_gcd.data.toList.drop 0 = dktX1_gcd_0 := by decide +kernel
theorem dX1_gcd_0 : decode cX1_gcd 0 = .ok (.iload_n 0, 1) := dk_26 (dk_at dksX1_gcd_0 0 rfl rfl)
theorem dX1_gcd_1 : decode cX1_gcd 1 = .ok (.istore_n 2, 1) := dk_61 (dk_at dksX1_gcd_0 1 rfl rfl)
theorem dX1_gcd_2 : decode cX1_gcd 2 = .ok (.iload_n 1, 1) := dk_27 (dk_at dksX1_gcd_0 2 rfl rfl)
theorem dX1_gcd_3 : decode cX1_gcd 3 = .ok (.istore_n 3, 1) := dk_62 (dk_at dksX1_gcd_0 3 rfl rfl)
theorem dX1_gcd_4 : decode cX1_gcd 4 = .ok (.iload_n 3, 1) := dk_29 (dk_at dksX1_gcd_0 4 rfl rfl)
theorem dX1_gcd_5 : decode cX1_gcd 5 = .ok (.ifCond .eq 16, 3) := dk_153 0 16 (dk_at dksX1_gcd_0 5 rfl rfl)
theorem dX1_gcd_8 : decode cX1_gcd 8 = .ok (.iload_n 2, 1) := dk_28 (dk_at dksX1_gcd_0 8 rfl rfl)
theorem dX1_gcd_9 : decode cX1_gcd 9 = .ok (.iload_n 3, 1) := dk_29 (dk_at dksX1_gcd_0 9 rfl rfl)
theorem dX1_gcd_10 : decode cX1_gcd 10 = .ok (.irem, 1) := dk_112 (dk_at dksX1_gcd_0 10 rfl rfl)
theorem dX1_gcd_11 : decode cX1_gcd 11 = .ok (.istore 4, 2) := dk_54 4 (dk_at dksX1_gcd_0 11 rfl rfl)
theorem dX1_gcd_13 : decode cX1_gcd 13 = .ok (.iload_n 3, 1) := dk_29 (dk_at dksX1_gcd_0 13 rfl rfl)
theorem dX1_gcd_14 : decode cX1_gcd 14 = .ok (.istore_n 2, 1) := dk_61 (dk_at dksX1_gcd_0 14 rfl rfl)
theorem dX1_gcd_15 : decode cX1_gcd 15 = .ok (.iload 4, 2) := dk_21 4 (dk_at dksX1_gcd_0 15 rfl rfl)
theorem dX1_gcd_17 : decode cX1_gcd 17 = .ok (.istore_n 3, 1) := dk_62 (dk_at dksX1_gcd_0 17 rfl rfl)
theorem dX1_gcd_18 : decode cX1_gcd 18 = .ok (.goto (-14), 3) := dk_167 255 242 (dk_at dksX1_gcd_0 18 rfl rfl)
theorem dX1_gcd_21 : decode cX1_gcd 21 = .ok (.iload_n 2, 1) := dk_28 (dk_at dksX1_gcd_0 21 rfl rfl)
theorem dX1_gcd_22 : decode cX1_gcd 22 = .ok (.ireturn, 1) := dk_172 (dk_at dksX1_gcd_0 22 rfl rfl)
abbrev cX1_rainToJoin : ByteArray := prog_1_method_39_code
def yX1_rainToJoin : MethodName := ⟨RX1, "rainToJoin", "()I"⟩
def dkwX1_rainToJoin_1 : List UInt8 := [2, 172]
abbrev dktX1_rainToJoin_1 : List UInt8 := dkwX1_rainToJoin_1 ++ []
def dkwX1_rainToJoin_0 : List UInt8 := [4, 60, 27, 16, 40, 163, 0, 19, 42, 27, 182, 1, 13, 153, 0, 5, 27, 172, 132, 1, 1, 167, 255, 237]
abbrev dktX1_rainToJoin_0 : List UInt8 := dkwX1_rainToJoin_0 ++ dktX1_rainToJoin_1
theorem dksX1_rainToJoin_0 : cX1_rainToJoin.data.toList.drop 0 = dktX1_rainToJoin_0 := by decide +kernel
theorem dksX1_rainToJoin_1 : cX1_rainToJoin.data.toList.drop 24 = dktX1_rainToJoin_1 := dk_seg dksX1_rainToJoin_0 24 rfl rfl
theorem dX1_rainToJoin_0 : decode cX1_rainToJoin 0 = .ok (.iconst 1, 1) := dk_4 (dk_at dksX1_rainToJoin_0 0 rfl rfl)
theorem dX1_rainToJoin_1 : decode cX1_rainToJoin 1 = .ok (.istore_n 1, 1) := dk_60 (dk_at dksX1_rainToJoin_0 1 rfl rfl)
theorem dX1_rainToJoin_2 : decode cX1_rainToJoin 2 = .ok (.iload_n 1, 1) := dk_27 (dk_at dksX1_rainToJoin_0 2 rfl rfl)
theorem dX1_rainToJoin_3 : decode cX1_rainToJoin 3 = .ok (.bipush 40, 2) := dk_16 40 (dk_at dksX1_rainToJoin_0 3 rfl rfl)
theorem dX1_rainToJoin_5 : decode cX1_rainToJoin 5 = .ok (.if_icmp .gt 19, 3) := dk_163 0 19 (dk_at dksX1_rainToJoin_0 5 rfl rfl)
theorem dX1_rainToJoin_8 : decode cX1_rainToJoin 8 = .ok (.aload_n 0, 1) := dk_42 (dk_at dksX1_rainToJoin_0 8 rfl rfl)
theorem dX1_rainToJoin_9 : decode cX1_rainToJoin 9 = .ok (.iload_n 1, 1) := dk_27 (dk_at dksX1_rainToJoin_0 9 rfl rfl)
theorem dX1_rainToJoin_10 : decode cX1_rainToJoin 10 = .ok (.invokevirtual 269, 3) := dk_182 1 13 (dk_at dksX1_rainToJoin_0 10 rfl rfl)
theorem dX1_rainToJoin_13 : decode cX1_rainToJoin 13 = .ok (.ifCond .eq 5, 3) := dk_153 0 5 (dk_at dksX1_rainToJoin_0 13 rfl rfl)
theorem dX1_rainToJoin_16 : decode cX1_rainToJoin 16 = .ok (.iload_n 1, 1) := dk_27 (dk_at dksX1_rainToJoin_0 16 rfl rfl)
theorem dX1_rainToJoin_17 : decode cX1_rainToJoin 17 = .ok (.ireturn, 1) := dk_172 (dk_at dksX1_rainToJoin_0 17 rfl rfl)
theorem dX1_rainToJoin_18 : decode cX1_rainToJoin 18 = .ok (.iinc 1 1, 3) := dk_132 1 1 (dk_at dksX1_rainToJoin_0 18 rfl rfl)
theorem dX1_rainToJoin_21 : decode cX1_rainToJoin 21 = .ok (.goto (-19), 3) := dk_167 255 237 (dk_at dksX1_rainToJoin_0 21 rfl rfl)
theorem dX1_rainToJoin_24 : decode cX1_rainToJoin 24 = .ok (.iconst (-1), 1) := dk_2 (dk_at dksX1_rainToJoin_1 0 rfl rfl)
theorem dX1_rainToJoin_25 : decode cX1_rainToJoin 25 = .ok (.ireturn, 1) := dk_172 (dk_at dksX1_rainToJoin_1 1 rfl rfl)
abbrev cX1_wouldJoin : ByteArray := prog_1_method_38_code
def yX1_wouldJoin : MethodName := ⟨RX1, "wouldJoin", "(I)Z"⟩
def dkwX1_wouldJoin_1 : List UInt8 := [180, 0, 104, 182, 0, 108, 162, 0, 7, 4, 167, 0, 4, 3, 172]
abbrev dktX1_wouldJoin_1 : List UInt8 := dkwX1_wouldJoin_1 ++ []
def dkwX1_wouldJoin_0 : List UInt8 := [42, 180, 0, 41, 182, 0, 72, 77, 44, 27, 182, 0, 216, 44, 180, 0, 104, 182, 0, 108, 42, 180, 0, 41]
abbrev dktX1_wouldJoin_0 : List UInt8 := dkwX1_wouldJoin_0 ++ dktX1_wouldJoin_1
theorem dksX1_wouldJoin_0 : cX1_wouldJoin.data.toList.drop 0 = dktX1_wouldJoin_0 := by decide +kernel
theorem dksX1_wouldJoin_1 : cX1_wouldJoin.data.toList.drop 24 = dktX1_wouldJoin_1 := dk_seg dksX1_wouldJoin_0 24 rfl rfl
theorem dX1_wouldJoin_0 : decode cX1_wouldJoin 0 = .ok (.aload_n 0, 1) := dk_42 (dk_at dksX1_wouldJoin_0 0 rfl rfl)
theorem dX1_wouldJoin_1 : decode cX1_wouldJoin 1 = .ok (.getfield 41, 3) := dk_180 0 41 (dk_at dksX1_wouldJoin_0 1 rfl rfl)
theorem dX1_wouldJoin_4 : decode cX1_wouldJoin 4 = .ok (.invokevirtual 72, 3) := dk_182 0 72 (dk_at dksX1_wouldJoin_0 4 rfl rfl)
theorem dX1_wouldJoin_7 : decode cX1_wouldJoin 7 = .ok (.astore_n 2, 1) := dk_77 (dk_at dksX1_wouldJoin_0 7 rfl rfl)
theorem dX1_wouldJoin_8 : decode cX1_wouldJoin 8 = .ok (.aload_n 2, 1) := dk_44 (dk_at dksX1_wouldJoin_0 8 rfl rfl)
theorem dX1_wouldJoin_9 : decode cX1_wouldJoin 9 = .ok (.iload_n 1, 1) := dk_27 (dk_at dksX1_wouldJoin_0 9 rfl rfl)
theorem dX1_wouldJoin_10 : decode cX1_wouldJoin 10 = .ok (.invokevirtual 216, 3) := dk_182 0 216 (dk_at dksX1_wouldJoin_0 10 rfl rfl)
theorem dX1_wouldJoin_13 : decode cX1_wouldJoin 13 = .ok (.aload_n 2, 1) := dk_44 (dk_at dksX1_wouldJoin_0 13 rfl rfl)
theorem dX1_wouldJoin_14 : decode cX1_wouldJoin 14 = .ok (.getfield 104, 3) := dk_180 0 104 (dk_at dksX1_wouldJoin_0 14 rfl rfl)
theorem dX1_wouldJoin_17 : decode cX1_wouldJoin 17 = .ok (.invokevirtual 108, 3) := dk_182 0 108 (dk_at dksX1_wouldJoin_0 17 rfl rfl)
theorem dX1_wouldJoin_20 : decode cX1_wouldJoin 20 = .ok (.aload_n 0, 1) := dk_42 (dk_at dksX1_wouldJoin_0 20 rfl rfl)
theorem dX1_wouldJoin_21 : decode cX1_wouldJoin 21 = .ok (.getfield 41, 3) := dk_180 0 41 (dk_at dksX1_wouldJoin_0 21 rfl rfl)
theorem dX1_wouldJoin_24 : decode cX1_wouldJoin 24 = .ok (.getfield 104, 3) := dk_180 0 104 (dk_at dksX1_wouldJoin_1 0 rfl rfl)
theorem dX1_wouldJoin_27 : decode cX1_wouldJoin 27 = .ok (.invokevirtual 108, 3) := dk_182 0 108 (dk_at dksX1_wouldJoin_1 3 rfl rfl)
theorem dX1_wouldJoin_30 : decode cX1_wouldJoin 30 = .ok (.if_icmp .ge 7, 3) := dk_162 0 7 (dk_at dksX1_wouldJoin_1 6 rfl rfl)
theorem dX1_wouldJoin_33 : decode cX1_wouldJoin 33 = .ok (.iconst 1, 1) := dk_4 (dk_at dksX1_wouldJoin_1 9 rfl rfl)
theorem dX1_wouldJoin_34 : decode cX1_wouldJoin 34 = .ok (.goto 4, 3) := dk_167 0 4 (dk_at dksX1_wouldJoin_1 10 rfl rfl)
theorem dX1_wouldJoin_37 : decode cX1_wouldJoin 37 = .ok (.iconst 0, 1) := dk_3 (dk_at dksX1_wouldJoin_1 13 rfl rfl)
theorem dX1_wouldJoin_38 : decode cX1_wouldJoin 38 = .ok (.ireturn, 1) := dk_172 (dk_at dksX1_wouldJoin_1 14 rfl rfl)
abbrev cX1_clearText : ByteArray := prog_1_method_42_code
def yX1_clearText : MethodName := ⟨RX1, "clearText", "()I"⟩
def dkwX1_clearText_0 : List UInt8 := [42, 180, 1, 19, 60, 42, 3, 181, 1, 19, 27, 172]
abbrev dktX1_clearText_0 : List UInt8 := dkwX1_clearText_0 ++ []
theorem dksX1_clearText_0 : cX1_clearText.data.toList.drop 0 = dktX1_clearText_0 := by decide +kernel
theorem dX1_clearText_0 : decode cX1_clearText 0 = .ok (.aload_n 0, 1) := dk_42 (dk_at dksX1_clearText_0 0 rfl rfl)
theorem dX1_clearText_1 : decode cX1_clearText 1 = .ok (.getfield 275, 3) := dk_180 1 19 (dk_at dksX1_clearText_0 1 rfl rfl)
theorem dX1_clearText_4 : decode cX1_clearText 4 = .ok (.istore_n 1, 1) := dk_60 (dk_at dksX1_clearText_0 4 rfl rfl)
theorem dX1_clearText_5 : decode cX1_clearText 5 = .ok (.aload_n 0, 1) := dk_42 (dk_at dksX1_clearText_0 5 rfl rfl)
theorem dX1_clearText_6 : decode cX1_clearText 6 = .ok (.iconst 0, 1) := dk_3 (dk_at dksX1_clearText_0 6 rfl rfl)
theorem dX1_clearText_7 : decode cX1_clearText 7 = .ok (.putfield 275, 3) := dk_181 1 19 (dk_at dksX1_clearText_0 7 rfl rfl)
theorem dX1_clearText_10 : decode cX1_clearText 10 = .ok (.iload_n 1, 1) := dk_27 (dk_at dksX1_clearText_0 10 rfl rfl)
theorem dX1_clearText_11 : decode cX1_clearText 11 = .ok (.ireturn, 1) := dk_172 (dk_at dksX1_clearText_0 11 rfl rfl)
abbrev cX1_parse : ByteArray := prog_1_method_43_code
def yX1_parse : MethodName := ⟨RX1, "parse", "()I"⟩
def dkwX1_parse_1 : List UInt8 := [43, 180, 0, 183, 172, 76, 16, 246, 43, 180, 1, 32, 100, 172]
abbrev dktX1_parse_1 : List UInt8 := dkwX1_parse_1 ++ []
def dkwX1_parse_0 : List UInt8 := [187, 1, 22, 89, 42, 183, 1, 24, 182, 1, 27, 76, 42, 182, 0, 138, 42, 43, 184, 0, 35, 181, 0, 41]
abbrev dktX1_parse_0 : List UInt8 := dkwX1_parse_0 ++ dktX1_parse_1
theorem dksX1_parse_0 : cX1_parse.data.toList.drop 0 = dktX1_parse_0 := by decide +kernel
theorem dksX1_parse_1 : cX1_parse.data.toList.drop 24 = dktX1_parse_1 := dk_seg dksX1_parse_0 24 rfl rfl
theorem dX1_parse_0 : decode cX1_parse 0 = .ok (.new 278, 3) := dk_187 1 22 (dk_at dksX1_parse_0 0 rfl rfl)
theorem dX1_parse_3 : decode cX1_parse 3 = .ok (.dup, 1) := dk_89 (dk_at dksX1_parse_0 3 rfl rfl)
theorem dX1_parse_4 : decode cX1_parse 4 = .ok (.aload_n 0, 1) := dk_42 (dk_at dksX1_parse_0 4 rfl rfl)
theorem dX1_parse_5 : decode cX1_parse 5 = .ok (.invokespecial 280, 3) := dk_183 1 24 (dk_at dksX1_parse_0 5 rfl rfl)
theorem dX1_parse_8 : decode cX1_parse 8 = .ok (.invokevirtual 283, 3) := dk_182 1 27 (dk_at dksX1_parse_0 8 rfl rfl)
theorem dX1_parse_11 : decode cX1_parse 11 = .ok (.astore_n 1, 1) := dk_76 (dk_at dksX1_parse_0 11 rfl rfl)
theorem dX1_parse_12 : decode cX1_parse 12 = .ok (.aload_n 0, 1) := dk_42 (dk_at dksX1_parse_0 12 rfl rfl)
theorem dX1_parse_13 : decode cX1_parse 13 = .ok (.invokevirtual 138, 3) := dk_182 0 138 (dk_at dksX1_parse_0 13 rfl rfl)
theorem dX1_parse_16 : decode cX1_parse 16 = .ok (.aload_n 0, 1) := dk_42 (dk_at dksX1_parse_0 16 rfl rfl)
theorem dX1_parse_17 : decode cX1_parse 17 = .ok (.aload_n 1, 1) := dk_43 (dk_at dksX1_parse_0 17 rfl rfl)
theorem dX1_parse_18 : decode cX1_parse 18 = .ok (.invokestatic 35, 3) := dk_184 0 35 (dk_at dksX1_parse_0 18 rfl rfl)
theorem dX1_parse_21 : decode cX1_parse 21 = .ok (.putfield 41, 3) := dk_181 0 41 (dk_at dksX1_parse_0 21 rfl rfl)
theorem dX1_parse_24 : decode cX1_parse 24 = .ok (.aload_n 1, 1) := dk_43 (dk_at dksX1_parse_1 0 rfl rfl)
theorem dX1_parse_25 : decode cX1_parse 25 = .ok (.getfield 183, 3) := dk_180 0 183 (dk_at dksX1_parse_1 1 rfl rfl)
theorem dX1_parse_28 : decode cX1_parse 28 = .ok (.ireturn, 1) := dk_172 (dk_at dksX1_parse_1 4 rfl rfl)
theorem dX1_parse_29 : decode cX1_parse 29 = .ok (.astore_n 1, 1) := dk_76 (dk_at dksX1_parse_1 5 rfl rfl)
theorem dX1_parse_30 : decode cX1_parse 30 = .ok (.bipush (-10), 2) := dk_16 246 (dk_at dksX1_parse_1 6 rfl rfl)
theorem dX1_parse_32 : decode cX1_parse 32 = .ok (.aload_n 1, 1) := dk_43 (dk_at dksX1_parse_1 8 rfl rfl)
theorem dX1_parse_33 : decode cX1_parse 33 = .ok (.getfield 288, 3) := dk_180 1 32 (dk_at dksX1_parse_1 9 rfl rfl)
theorem dX1_parse_36 : decode cX1_parse 36 = .ok (.isub, 1) := dk_100 (dk_at dksX1_parse_1 12 rfl rfl)
theorem dX1_parse_37 : decode cX1_parse 37 = .ok (.ireturn, 1) := dk_172 (dk_at dksX1_parse_1 13 rfl rfl)
abbrev cX1_save : ByteArray := prog_1_method_10_code
def yX1_save : MethodName := ⟨RX1, "save", "()V"⟩
def dkwX1_save_1 : List UInt8 := [180, 0, 41, 182, 0, 72, 182, 0, 76, 177]
abbrev dktX1_save_1 : List UInt8 := dkwX1_save_1 ++ []
def dkwX1_save_0 : List UInt8 := [42, 180, 0, 48, 182, 0, 64, 7, 160, 0, 11, 42, 180, 0, 48, 182, 0, 68, 87, 42, 180, 0, 48, 42]
abbrev dktX1_save_0 : List UInt8 := dkwX1_save_0 ++ dktX1_save_1
theorem dksX1_save_0 : cX1_save.data.toList.drop 0 = dktX1_save_0 := by decide +kernel
theorem dksX1_save_1 : cX1_save.data.toList.drop 24 = dktX1_save_1 := dk_seg dksX1_save_0 24 rfl rfl
theorem dX1_save_0 : decode cX1_save 0 = .ok (.aload_n 0, 1) := dk_42 (dk_at dksX1_save_0 0 rfl rfl)
theorem dX1_save_1 : decode cX1_save 1 = .ok (.getfield 48, 3) := dk_180 0 48 (dk_at dksX1_save_0 1 rfl rfl)
theorem dX1_save_4 : decode cX1_save 4 = .ok (.invokevirtual 64, 3) := dk_182 0 64 (dk_at dksX1_save_0 4 rfl rfl)
theorem dX1_save_7 : decode cX1_save 7 = .ok (.iconst 4, 1) := dk_7 (dk_at dksX1_save_0 7 rfl rfl)
theorem dX1_save_8 : decode cX1_save 8 = .ok (.if_icmp .ne 11, 3) := dk_160 0 11 (dk_at dksX1_save_0 8 rfl rfl)
theorem dX1_save_11 : decode cX1_save 11 = .ok (.aload_n 0, 1) := dk_42 (dk_at dksX1_save_0 11 rfl rfl)
theorem dX1_save_12 : decode cX1_save 12 = .ok (.getfield 48, 3) := dk_180 0 48 (dk_at dksX1_save_0 12 rfl rfl)
theorem dX1_save_15 : decode cX1_save 15 = .ok (.invokevirtual 68, 3) := dk_182 0 68 (dk_at dksX1_save_0 15 rfl rfl)
theorem dX1_save_18 : decode cX1_save 18 = .ok (.pop, 1) := dk_87 (dk_at dksX1_save_0 18 rfl rfl)
theorem dX1_save_19 : decode cX1_save 19 = .ok (.aload_n 0, 1) := dk_42 (dk_at dksX1_save_0 19 rfl rfl)
theorem dX1_save_20 : decode cX1_save 20 = .ok (.getfield 48, 3) := dk_180 0 48 (dk_at dksX1_save_0 20 rfl rfl)
theorem dX1_save_23 : decode cX1_save 23 = .ok (.aload_n 0, 1) := dk_42 (dk_at dksX1_save_0 23 rfl rfl)
theorem dX1_save_24 : decode cX1_save 24 = .ok (.getfield 41, 3) := dk_180 0 41 (dk_at dksX1_save_1 0 rfl rfl)
theorem dX1_save_27 : decode cX1_save 27 = .ok (.invokevirtual 72, 3) := dk_182 0 72 (dk_at dksX1_save_1 3 rfl rfl)
theorem dX1_save_30 : decode cX1_save 30 = .ok (.invokevirtual 76, 3) := dk_182 0 76 (dk_at dksX1_save_1 6 rfl rfl)
theorem dX1_save_33 : decode cX1_save 33 = .ok (.return_, 1) := dk_177 (dk_at dksX1_save_1 9 rfl rfl)
abbrev cX1_digest : ByteArray := prog_1_method_45_code
def yX1_digest : MethodName := ⟨RX1, "digest", "()J"⟩
def dkwX1_digest_10 : List UInt8 := [167, 255, 233, 20, 1, 44, 31, 105, 42, 180, 0, 48, 182, 0, 64, 133, 97, 173]
abbrev dktX1_digest_10 : List UInt8 := dkwX1_digest_10 ++ []
def dkwX1_digest_9 : List UInt8 := [29, 7, 162, 0, 24, 20, 1, 44, 31, 105, 42, 180, 0, 41, 29, 182, 0, 237, 97, 64, 132, 3, 1]
abbrev dktX1_digest_9 : List UInt8 := dkwX1_digest_9 ++ dktX1_digest_10
def dkwX1_digest_8 : List UInt8 := [182, 0, 247, 133, 97, 105, 25, 4, 42, 182, 0, 84, 4, 182, 0, 247, 133, 97, 64, 167, 255, 155, 3, 62]
abbrev dktX1_digest_8 : List UInt8 := dkwX1_digest_8 ++ dktX1_digest_9
def dkwX1_digest_7 : List UInt8 := [31, 105, 25, 4, 180, 0, 244, 97, 64, 20, 1, 44, 20, 1, 44, 31, 105, 25, 4, 42, 182, 0, 84, 3]
abbrev dktX1_digest_7 : List UInt8 := dkwX1_digest_7 ++ dktX1_digest_8
def dkwX1_digest_6 : List UInt8 := [105, 42, 180, 0, 41, 25, 4, 21, 5, 182, 0, 240, 133, 97, 64, 132, 5, 1, 167, 255, 227, 20, 1, 44]
abbrev dktX1_digest_6 : List UInt8 := dkwX1_digest_6 ++ dktX1_digest_7
def dkwX1_digest_5 : List UInt8 := [185, 1, 55, 1, 0, 192, 0, 115, 58, 4, 3, 54, 5, 21, 5, 16, 10, 162, 0, 28, 20, 1, 44, 31]
abbrev dktX1_digest_5 : List UInt8 := dkwX1_digest_5 ++ dktX1_digest_6
def dkwX1_digest_4 : List UInt8 := [42, 180, 0, 41, 180, 0, 104, 182, 1, 46, 78, 45, 185, 1, 50, 1, 0, 153, 0, 98, 45]
abbrev dktX1_digest_4 : List UInt8 := dkwX1_digest_4 ++ dktX1_digest_5
def dkwX1_digest_3 : List UInt8 := [180, 0, 41, 29, 21, 4, 182, 0, 187, 133, 97, 64, 132, 4, 1, 167, 255, 228, 132, 3, 1, 167, 255, 208]
abbrev dktX1_digest_3 : List UInt8 := dkwX1_digest_3 ++ dktX1_digest_4
def dkwX1_digest_2 : List UInt8 := [182, 0, 87, 162, 0, 43, 3, 54, 4, 21, 4, 16, 6, 162, 0, 27, 20, 1, 44, 31, 105, 42]
abbrev dktX1_digest_2 : List UInt8 := dkwX1_digest_2 ++ dktX1_digest_3
def dkwX1_digest_1 : List UInt8 := [180, 0, 41, 29, 182, 0, 193, 133, 97, 64, 132, 3, 1, 167, 255, 231, 3, 62, 29, 42, 182, 0, 84]
abbrev dktX1_digest_1 : List UInt8 := dkwX1_digest_1 ++ dktX1_digest_2
def dkwX1_digest_0 : List UInt8 := [20, 1, 42, 42, 180, 1, 19, 133, 97, 64, 3, 62, 29, 16, 7, 162, 0, 25, 20, 1, 44, 31, 105, 42]
abbrev dktX1_digest_0 : List UInt8 := dkwX1_digest_0 ++ dktX1_digest_1
theorem dksX1_digest_0 : cX1_digest.data.toList.drop 0 = dktX1_digest_0 := by decide +kernel
theorem dksX1_digest_1 : cX1_digest.data.toList.drop 24 = dktX1_digest_1 := dk_seg dksX1_digest_0 24 rfl rfl
theorem dksX1_digest_2 : cX1_digest.data.toList.drop 47 = dktX1_digest_2 := dk_seg dksX1_digest_1 23 rfl rfl
theorem dksX1_digest_3 : cX1_digest.data.toList.drop 69 = dktX1_digest_3 := dk_seg dksX1_digest_2 22 rfl rfl
theorem dksX1_digest_4 : cX1_digest.data.toList.drop 93 = dktX1_digest_4 := dk_seg dksX1_digest_3 24 rfl rfl
theorem dksX1_digest_5 : cX1_digest.data.toList.drop 114 = dktX1_digest_5 := dk_seg dksX1_digest_4 21 rfl rfl
theorem dksX1_digest_6 : cX1_digest.data.toList.drop 138 = dktX1_digest_6 := dk_seg dksX1_digest_5 24 rfl rfl
theorem dksX1_digest_7 : cX1_digest.data.toList.drop 162 = dktX1_digest_7 := dk_seg dksX1_digest_6 24 rfl rfl
theorem dksX1_digest_8 : cX1_digest.data.toList.drop 186 = dktX1_digest_8 := dk_seg dksX1_digest_7 24 rfl rfl
theorem dksX1_digest_9 : cX1_digest.data.toList.drop 210 = dktX1_digest_9 := dk_seg dksX1_digest_8 24 rfl rfl
theorem dksX1_digest_10 : cX1_digest.data.toList.drop 233 = dktX1_digest_10 := dk_seg dksX1_digest_9 23 rfl rfl
theorem dX1_digest_0 : decode cX1_digest 0 = .ok (.ldc2_w 298, 3) := dk_20 1 42 (dk_at dksX1_digest_0 0 rfl rfl)
theorem dX1_digest_3 : decode cX1_digest 3 = .ok (.aload_n 0, 1) := dk_42 (dk_at dksX1_digest_0 3 rfl rfl)
theorem dX1_digest_4 : decode cX1_digest 4 = .ok (.getfield 275, 3) := dk_180 1 19 (dk_at dksX1_digest_0 4 rfl rfl)
theorem dX1_digest_7 : decode cX1_digest 7 = .ok (.i2l, 1) := dk_133 (dk_at dksX1_digest_0 7 rfl rfl)
theorem dX1_digest_8 : decode cX1_digest 8 = .ok (.ladd, 1) := dk_97 (dk_at dksX1_digest_0 8 rfl rfl)
theorem dX1_digest_9 : decode cX1_digest 9 = .ok (.lstore_n 1, 1) := dk_64 (dk_at dksX1_digest_0 9 rfl rfl)
theorem dX1_digest_10 : decode cX1_digest 10 = .ok (.iconst 0, 1) := dk_3 (dk_at dksX1_digest_0 10 rfl rfl)
theorem dX1_digest_11 : decode cX1_digest 11 = .ok (.istore_n 3, 1) := dk_62 (dk_at dksX1_digest_0 11 rfl rfl)
theorem dX1_digest_12 : decode cX1_digest 12 = .ok (.iload_n 3, 1) := dk_29 (dk_at dksX1_digest_0 12 rfl rfl)
theorem dX1_digest_13 : decode cX1_digest 13 = .ok (.bipush 7, 2) := dk_16 7 (dk_at dksX1_digest_0 13 rfl rfl)
theorem dX1_digest_15 : decode cX1_digest 15 = .ok (.if_icmp .ge 25, 3) := dk_162 0 25 (dk_at dksX1_digest_0 15 rfl rfl)
theorem dX1_digest_18 : decode cX1_digest 18 = .ok (.ldc2_w 300, 3) := dk_20 1 44 (dk_at dksX1_digest_0 18 rfl rfl)
theorem dX1_digest_21 : decode cX1_digest 21 = .ok (.lload_n 1, 1) := dk_31 (dk_at dksX1_digest_0 21 rfl rfl)
theorem dX1_digest_22 : decode cX1_digest 22 = .ok (.lmul, 1) := dk_105 (dk_at dksX1_digest_0 22 rfl rfl)
theorem dX1_digest_23 : decode cX1_digest 23 = .ok (.aload_n 0, 1) := dk_42 (dk_at dksX1_digest_0 23 rfl rfl)
theorem dX1_digest_24 : decode cX1_digest 24 = .ok (.getfield 41, 3) := dk_180 0 41 (dk_at dksX1_digest_1 0 rfl rfl)
theorem dX1_digest_27 : decode cX1_digest 27 = .ok (.iload_n 3, 1) := dk_29 (dk_at dksX1_digest_1 3 rfl rfl)
theorem dX1_digest_28 : decode cX1_digest 28 = .ok (.invokevirtual 193, 3) := dk_182 0 193 (dk_at dksX1_digest_1 4 rfl rfl)
theorem dX1_digest_31 : decode cX1_digest 31 = .ok (.i2l, 1) := dk_133 (dk_at dksX1_digest_1 7 rfl rfl)
theorem dX1_digest_32 : decode cX1_digest 32 = .ok (.ladd, 1) := dk_97 (dk_at dksX1_digest_1 8 rfl rfl)
theorem dX1_digest_33 : decode cX1_digest 33 = .ok (.lstore_n 1, 1) := dk_64 (dk_at dksX1_digest_1 9 rfl rfl)
theorem dX1_digest_34 : decode cX1_digest 34 = .ok (.iinc 3 1, 3) := dk_132 3 1 (dk_at dksX1_digest_1 10 rfl rfl)
theorem dX1_digest_37 : decode cX1_digest 37 = .ok (.goto (-25), 3) := dk_167 255 231 (dk_at dksX1_digest_1 13 rfl rfl)
theorem dX1_digest_40 : decode cX1_digest 40 = .ok (.iconst 0, 1) := dk_3 (dk_at dksX1_digest_1 16 rfl rfl)
theorem dX1_digest_41 : decode cX1_digest 41 = .ok (.istore_n 3, 1) := dk_62 (dk_at dksX1_digest_1 17 rfl rfl)
theorem dX1_digest_42 : decode cX1_digest 42 = .ok (.iload_n 3, 1) := dk_29 (dk_at dksX1_digest_1 18 rfl rfl)
theorem dX1_digest_43 : decode cX1_digest 43 = .ok (.aload_n 0, 1) := dk_42 (dk_at dksX1_digest_1 19 rfl rfl)
theorem dX1_digest_44 : decode cX1_digest 44 = .ok (.invokevirtual 84, 3) := dk_182 0 84 (dk_at dksX1_digest_1 20 rfl rfl)
theorem dX1_digest_47 : decode cX1_digest 47 = .ok (.invokevirtual 87, 3) := dk_182 0 87 (dk_at dksX1_digest_2 0 rfl rfl)
theorem dX1_digest_50 : decode cX1_digest 50 = .ok (.if_icmp .ge 43, 3) := dk_162 0 43 (dk_at dksX1_digest_2 3 rfl rfl)
theorem dX1_digest_53 : decode cX1_digest 53 = .ok (.iconst 0, 1) := dk_3 (dk_at dksX1_digest_2 6 rfl rfl)
theorem dX1_digest_54 : decode cX1_digest 54 = .ok (.istore 4, 2) := dk_54 4 (dk_at dksX1_digest_2 7 rfl rfl)
theorem dX1_digest_56 : decode cX1_digest 56 = .ok (.iload 4, 2) := dk_21 4 (dk_at dksX1_digest_2 9 rfl rfl)
theorem dX1_digest_58 : decode cX1_digest 58 = .ok (.bipush 6, 2) := dk_16 6 (dk_at dksX1_digest_2 11 rfl rfl)
theorem dX1_digest_60 : decode cX1_digest 60 = .ok (.if_icmp .ge 27, 3) := dk_162 0 27 (dk_at dksX1_digest_2 13 rfl rfl)
theorem dX1_digest_63 : decode cX1_digest 63 = .ok (.ldc2_w 300, 3) := dk_20 1 44 (dk_at dksX1_digest_2 16 rfl rfl)
theorem dX1_digest_66 : decode cX1_digest 66 = .ok (.lload_n 1, 1) := dk_31 (dk_at dksX1_digest_2 19 rfl rfl)
theorem dX1_digest_67 : decode cX1_digest 67 = .ok (.lmul, 1) := dk_105 (dk_at dksX1_digest_2 20 rfl rfl)
theorem dX1_digest_68 : decode cX1_digest 68 = .ok (.aload_n 0, 1) := dk_42 (dk_at dksX1_digest_2 21 rfl rfl)
theorem dX1_digest_69 : decode cX1_digest 69 = .ok (.getfield 41, 3) := dk_180 0 41 (dk_at dksX1_digest_3 0 rfl rfl)
theorem dX1_digest_72 : decode cX1_digest 72 = .ok (.iload_n 3, 1) := dk_29 (dk_at dksX1_digest_3 3 rfl rfl)
theorem dX1_digest_73 : decode cX1_digest 73 = .ok (.iload 4, 2) := dk_21 4 (dk_at dksX1_digest_3 4 rfl rfl)
theorem dX1_digest_75 : decode cX1_digest 75 = .ok (.invokevirtual 187, 3) := dk_182 0 187 (dk_at dksX1_digest_3 6 rfl rfl)
theorem dX1_digest_78 : decode cX1_digest 78 = .ok (.i2l, 1) := dk_133 (dk_at dksX1_digest_3 9 rfl rfl)
theorem dX1_digest_79 : decode cX1_digest 79 = .ok (.ladd, 1) := dk_97 (dk_at dksX1_digest_3 10 rfl rfl)
theorem dX1_digest_80 : decode cX1_digest 80 = .ok (.lstore_n 1, 1) := dk_64 (dk_at dksX1_digest_3 11 rfl rfl)
theorem dX1_digest_81 : decode cX1_digest 81 = .ok (.iinc 4 1, 3) := dk_132 4 1 (dk_at dksX1_digest_3 12 rfl rfl)
theorem dX1_digest_84 : decode cX1_digest 84 = .ok (.goto (-28), 3) := dk_167 255 228 (dk_at dksX1_digest_3 15 rfl rfl)
theorem dX1_digest_87 : decode cX1_digest 87 = .ok (.iinc 3 1, 3) := dk_132 3 1 (dk_at dksX1_digest_3 18 rfl rfl)
theorem dX1_digest_90 : decode cX1_digest 90 = .ok (.goto (-48), 3) := dk_167 255 208 (dk_at dksX1_digest_3 21 rfl rfl)
theorem dX1_digest_93 : decode cX1_digest 93 = .ok (.aload_n 0, 1) := dk_42 (dk_at dksX1_digest_4 0 rfl rfl)
theorem dX1_digest_94 : decode cX1_digest 94 = .ok (.getfield 41, 3) := dk_180 0 41 (dk_at dksX1_digest_4 1 rfl rfl)
theorem dX1_digest_97 : decode cX1_digest 97 = .ok (.getfield 104, 3) := dk_180 0 104 (dk_at dksX1_digest_4 4 rfl rfl)
theorem dX1_digest_100 : decode cX1_digest 100 = .ok (.invokevirtual 302, 3) := dk_182 1 46 (dk_at dksX1_digest_4 7 rfl rfl)
theorem dX1_digest_103 : decode cX1_digest 103 = .ok (.astore_n 3, 1) := dk_78 (dk_at dksX1_digest_4 10 rfl rfl)
theorem dX1_digest_104 : decode cX1_digest 104 = .ok (.aload_n 3, 1) := dk_45 (dk_at dksX1_digest_4 11 rfl rfl)
theorem dX1_digest_105 : decode cX1_digest 105 = .ok (.invokeinterface 306 1, 5) := by decide +kernel
theorem dX1_digest_110 : decode cX1_digest 110 = .ok (.ifCond .eq 98, 3) := dk_153 0 98 (dk_at dksX1_digest_4 17 rfl rfl)
theorem dX1_digest_113 : decode cX1_digest 113 = .ok (.aload_n 3, 1) := dk_45 (dk_at dksX1_digest_4 20 rfl rfl)
theorem dX1_digest_114 : decode cX1_digest 114 = .ok (.invokeinterface 311 1, 5) := by decide +kernel
theorem dX1_digest_119 : decode cX1_digest 119 = .ok (.checkcast 115, 3) := dk_192 0 115 (dk_at dksX1_digest_5 5 rfl rfl)
theorem dX1_digest_122 : decode cX1_digest 122 = .ok (.astore 4, 2) := dk_58 4 (dk_at dksX1_digest_5 8 rfl rfl)
theorem dX1_digest_124 : decode cX1_digest 124 = .ok (.iconst 0, 1) := dk_3 (dk_at dksX1_digest_5 10 rfl rfl)
theorem dX1_digest_125 : decode cX1_digest 125 = .ok (.istore 5, 2) := dk_54 5 (dk_at dksX1_digest_5 11 rfl rfl)
theorem dX1_digest_127 : decode cX1_digest 127 = .ok (.iload 5, 2) := dk_21 5 (dk_at dksX1_digest_5 13 rfl rfl)
theorem dX1_digest_129 : decode cX1_digest 129 = .ok (.bipush 10, 2) := dk_16 10 (dk_at dksX1_digest_5 15 rfl rfl)
theorem dX1_digest_131 : decode cX1_digest 131 = .ok (.if_icmp .ge 28, 3) := dk_162 0 28 (dk_at dksX1_digest_5 17 rfl rfl)
theorem dX1_digest_134 : decode cX1_digest 134 = .ok (.ldc2_w 300, 3) := dk_20 1 44 (dk_at dksX1_digest_5 20 rfl rfl)
theorem dX1_digest_137 : decode cX1_digest 137 = .ok (.lload_n 1, 1) := dk_31 (dk_at dksX1_digest_5 23 rfl rfl)
theorem dX1_digest_138 : decode cX1_digest 138 = .ok (.lmul, 1) := dk_105 (dk_at dksX1_digest_6 0 rfl rfl)
theorem dX1_digest_139 : decode cX1_digest 139 = .ok (.aload_n 0, 1) := dk_42 (dk_at dksX1_digest_6 1 rfl rfl)
theorem dX1_digest_140 : decode cX1_digest 140 = .ok (.getfield 41, 3) := dk_180 0 41 (dk_at dksX1_digest_6 2 rfl rfl)
theorem dX1_digest_143 : decode cX1_digest 143 = .ok (.aload 4, 2) := dk_25 4 (dk_at dksX1_digest_6 5 rfl rfl)
theorem dX1_digest_145 : decode cX1_digest 145 = .ok (.iload 5, 2) := dk_21 5 (dk_at dksX1_digest_6 7 rfl rfl)
theorem dX1_digest_147 : decode cX1_digest 147 = .ok (.invokevirtual 240, 3) := dk_182 0 240 (dk_at dksX1_digest_6 9 rfl rfl)
theorem dX1_digest_150 : decode cX1_digest 150 = .ok (.i2l, 1) := dk_133 (dk_at dksX1_digest_6 12 rfl rfl)
theorem dX1_digest_151 : decode cX1_digest 151 = .ok (.ladd, 1) := dk_97 (dk_at dksX1_digest_6 13 rfl rfl)
theorem dX1_digest_152 : decode cX1_digest 152 = .ok (.lstore_n 1, 1) := dk_64 (dk_at dksX1_digest_6 14 rfl rfl)
theorem dX1_digest_153 : decode cX1_digest 153 = .ok (.iinc 5 1, 3) := dk_132 5 1 (dk_at dksX1_digest_6 15 rfl rfl)
theorem dX1_digest_156 : decode cX1_digest 156 = .ok (.goto (-29), 3) := dk_167 255 227 (dk_at dksX1_digest_6 18 rfl rfl)
theorem dX1_digest_159 : decode cX1_digest 159 = .ok (.ldc2_w 300, 3) := dk_20 1 44 (dk_at dksX1_digest_6 21 rfl rfl)
theorem dX1_digest_162 : decode cX1_digest 162 = .ok (.lload_n 1, 1) := dk_31 (dk_at dksX1_digest_7 0 rfl rfl)
theorem dX1_digest_163 : decode cX1_digest 163 = .ok (.lmul, 1) := dk_105 (dk_at dksX1_digest_7 1 rfl rfl)
theorem dX1_digest_164 : decode cX1_digest 164 = .ok (.aload 4, 2) := dk_25 4 (dk_at dksX1_digest_7 2 rfl rfl)
theorem dX1_digest_166 : decode cX1_digest 166 = .ok (.getfield 244, 3) := dk_180 0 244 (dk_at dksX1_digest_7 4 rfl rfl)
theorem dX1_digest_169 : decode cX1_digest 169 = .ok (.ladd, 1) := dk_97 (dk_at dksX1_digest_7 7 rfl rfl)
theorem dX1_digest_170 : decode cX1_digest 170 = .ok (.lstore_n 1, 1) := dk_64 (dk_at dksX1_digest_7 8 rfl rfl)
theorem dX1_digest_171 : decode cX1_digest 171 = .ok (.ldc2_w 300, 3) := dk_20 1 44 (dk_at dksX1_digest_7 9 rfl rfl)
theorem dX1_digest_174 : decode cX1_digest 174 = .ok (.ldc2_w 300, 3) := dk_20 1 44 (dk_at dksX1_digest_7 12 rfl rfl)
theorem dX1_digest_177 : decode cX1_digest 177 = .ok (.lload_n 1, 1) := dk_31 (dk_at dksX1_digest_7 15 rfl rfl)
theorem dX1_digest_178 : decode cX1_digest 178 = .ok (.lmul, 1) := dk_105 (dk_at dksX1_digest_7 16 rfl rfl)
theorem dX1_digest_179 : decode cX1_digest 179 = .ok (.aload 4, 2) := dk_25 4 (dk_at dksX1_digest_7 17 rfl rfl)
theorem dX1_digest_181 : decode cX1_digest 181 = .ok (.aload_n 0, 1) := dk_42 (dk_at dksX1_digest_7 19 rfl rfl)
theorem dX1_digest_182 : decode cX1_digest 182 = .ok (.invokevirtual 84, 3) := dk_182 0 84 (dk_at dksX1_digest_7 20 rfl rfl)
theorem dX1_digest_185 : decode cX1_digest 185 = .ok (.iconst 0, 1) := dk_3 (dk_at dksX1_digest_7 23 rfl rfl)
theorem dX1_digest_186 : decode cX1_digest 186 = .ok (.invokevirtual 247, 3) := dk_182 0 247 (dk_at dksX1_digest_8 0 rfl rfl)
theorem dX1_digest_189 : decode cX1_digest 189 = .ok (.i2l, 1) := dk_133 (dk_at dksX1_digest_8 3 rfl rfl)
theorem dX1_digest_190 : decode cX1_digest 190 = .ok (.ladd, 1) := dk_97 (dk_at dksX1_digest_8 4 rfl rfl)
theorem dX1_digest_191 : decode cX1_digest 191 = .ok (.lmul, 1) := dk_105 (dk_at dksX1_digest_8 5 rfl rfl)
theorem dX1_digest_192 : decode cX1_digest 192 = .ok (.aload 4, 2) := dk_25 4 (dk_at dksX1_digest_8 6 rfl rfl)
theorem dX1_digest_194 : decode cX1_digest 194 = .ok (.aload_n 0, 1) := dk_42 (dk_at dksX1_digest_8 8 rfl rfl)
theorem dX1_digest_195 : decode cX1_digest 195 = .ok (.invokevirtual 84, 3) := dk_182 0 84 (dk_at dksX1_digest_8 9 rfl rfl)
theorem dX1_digest_198 : decode cX1_digest 198 = .ok (.iconst 1, 1) := dk_4 (dk_at dksX1_digest_8 12 rfl rfl)
theorem dX1_digest_199 : decode cX1_digest 199 = .ok (.invokevirtual 247, 3) := dk_182 0 247 (dk_at dksX1_digest_8 13 rfl rfl)
theorem dX1_digest_202 : decode cX1_digest 202 = .ok (.i2l, 1) := dk_133 (dk_at dksX1_digest_8 16 rfl rfl)
theorem dX1_digest_203 : decode cX1_digest 203 = .ok (.ladd, 1) := dk_97 (dk_at dksX1_digest_8 17 rfl rfl)
theorem dX1_digest_204 : decode cX1_digest 204 = .ok (.lstore_n 1, 1) := dk_64 (dk_at dksX1_digest_8 18 rfl rfl)
theorem dX1_digest_205 : decode cX1_digest 205 = .ok (.goto (-101), 3) := dk_167 255 155 (dk_at dksX1_digest_8 19 rfl rfl)
theorem dX1_digest_208 : decode cX1_digest 208 = .ok (.iconst 0, 1) := dk_3 (dk_at dksX1_digest_8 22 rfl rfl)
theorem dX1_digest_209 : decode cX1_digest 209 = .ok (.istore_n 3, 1) := dk_62 (dk_at dksX1_digest_8 23 rfl rfl)
theorem dX1_digest_210 : decode cX1_digest 210 = .ok (.iload_n 3, 1) := dk_29 (dk_at dksX1_digest_9 0 rfl rfl)
theorem dX1_digest_211 : decode cX1_digest 211 = .ok (.iconst 4, 1) := dk_7 (dk_at dksX1_digest_9 1 rfl rfl)
theorem dX1_digest_212 : decode cX1_digest 212 = .ok (.if_icmp .ge 24, 3) := dk_162 0 24 (dk_at dksX1_digest_9 2 rfl rfl)
theorem dX1_digest_215 : decode cX1_digest 215 = .ok (.ldc2_w 300, 3) := dk_20 1 44 (dk_at dksX1_digest_9 5 rfl rfl)
theorem dX1_digest_218 : decode cX1_digest 218 = .ok (.lload_n 1, 1) := dk_31 (dk_at dksX1_digest_9 8 rfl rfl)
theorem dX1_digest_219 : decode cX1_digest 219 = .ok (.lmul, 1) := dk_105 (dk_at dksX1_digest_9 9 rfl rfl)
theorem dX1_digest_220 : decode cX1_digest 220 = .ok (.aload_n 0, 1) := dk_42 (dk_at dksX1_digest_9 10 rfl rfl)
theorem dX1_digest_221 : decode cX1_digest 221 = .ok (.getfield 41, 3) := dk_180 0 41 (dk_at dksX1_digest_9 11 rfl rfl)
theorem dX1_digest_224 : decode cX1_digest 224 = .ok (.iload_n 3, 1) := dk_29 (dk_at dksX1_digest_9 14 rfl rfl)
theorem dX1_digest_225 : decode cX1_digest 225 = .ok (.invokevirtual 237, 3) := dk_182 0 237 (dk_at dksX1_digest_9 15 rfl rfl)
theorem dX1_digest_228 : decode cX1_digest 228 = .ok (.ladd, 1) := dk_97 (dk_at dksX1_digest_9 18 rfl rfl)
theorem dX1_digest_229 : decode cX1_digest 229 = .ok (.lstore_n 1, 1) := dk_64 (dk_at dksX1_digest_9 19 rfl rfl)
theorem dX1_digest_230 : decode cX1_digest 230 = .ok (.iinc 3 1, 3) := dk_132 3 1 (dk_at dksX1_digest_9 20 rfl rfl)
theorem dX1_digest_233 : decode cX1_digest 233 = .ok (.goto (-23), 3) := dk_167 255 233 (dk_at dksX1_digest_10 0 rfl rfl)
theorem dX1_digest_236 : decode cX1_digest 236 = .ok (.ldc2_w 300, 3) := dk_20 1 44 (dk_at dksX1_digest_10 3 rfl rfl)
theorem dX1_digest_239 : decode cX1_digest 239 = .ok (.lload_n 1, 1) := dk_31 (dk_at dksX1_digest_10 6 rfl rfl)
theorem dX1_digest_240 : decode cX1_digest 240 = .ok (.lmul, 1) := dk_105 (dk_at dksX1_digest_10 7 rfl rfl)
theorem dX1_digest_241 : decode cX1_digest 241 = .ok (.aload_n 0, 1) := dk_42 (dk_at dksX1_digest_10 8 rfl rfl)
theorem dX1_digest_242 : decode cX1_digest 242 = .ok (.getfield 48, 3) := dk_180 0 48 (dk_at dksX1_digest_10 9 rfl rfl)
theorem dX1_digest_245 : decode cX1_digest 245 = .ok (.invokevirtual 64, 3) := dk_182 0 64 (dk_at dksX1_digest_10 12 rfl rfl)
theorem dX1_digest_248 : decode cX1_digest 248 = .ok (.i2l, 1) := dk_133 (dk_at dksX1_digest_10 15 rfl rfl)
theorem dX1_digest_249 : decode cX1_digest 249 = .ok (.ladd, 1) := dk_97 (dk_at dksX1_digest_10 16 rfl rfl)
theorem dX1_digest_250 : decode cX1_digest 250 = .ok (.lreturn, 1) := dk_173 (dk_at dksX1_digest_10 17 rfl rfl)
abbrev cX1_begin : ByteArray := prog_1_method_16_code
def yX1_begin : MethodName := ⟨RX1, "begin", "(II)I"⟩
def dkwX1_begin_2 : List UInt8 := [27, 28, 104, 172]
abbrev dktX1_begin_2 : List UInt8 := dkwX1_begin_2 ++ []
def dkwX1_begin_1 : List UInt8 := [3, 184, 0, 135, 42, 182, 0, 138, 42, 187, 0, 30, 89, 27, 28, 183, 0, 32, 184, 0, 35, 181, 0, 41]
abbrev dktX1_begin_1 : List UInt8 := dkwX1_begin_1 ++ dktX1_begin_2
def dkwX1_begin_0 : List UInt8 := [27, 4, 16, 6, 184, 0, 88, 153, 0, 17, 28, 4, 16, 6, 184, 0, 88, 153, 0, 7, 4, 167, 0, 4]
abbrev dktX1_begin_0 : List UInt8 := dkwX1_begin_0 ++ dktX1_begin_1
theorem dksX1_begin_0 : cX1_begin.data.toList.drop 0 = dktX1_begin_0 := by decide +kernel
theorem dksX1_begin_1 : cX1_begin.data.toList.drop 24 = dktX1_begin_1 := dk_seg dksX1_begin_0 24 rfl rfl
theorem dksX1_begin_2 : cX1_begin.data.toList.drop 48 = dktX1_begin_2 := dk_seg dksX1_begin_1 24 rfl rfl
theorem dX1_begin_0 : decode cX1_begin 0 = .ok (.iload_n 1, 1) := dk_27 (dk_at dksX1_begin_0 0 rfl rfl)
theorem dX1_begin_1 : decode cX1_begin 1 = .ok (.iconst 1, 1) := dk_4 (dk_at dksX1_begin_0 1 rfl rfl)
theorem dX1_begin_2 : decode cX1_begin 2 = .ok (.bipush 6, 2) := dk_16 6 (dk_at dksX1_begin_0 2 rfl rfl)
theorem dX1_begin_4 : decode cX1_begin 4 = .ok (.invokestatic 88, 3) := dk_184 0 88 (dk_at dksX1_begin_0 4 rfl rfl)
theorem dX1_begin_7 : decode cX1_begin 7 = .ok (.ifCond .eq 17, 3) := dk_153 0 17 (dk_at dksX1_begin_0 7 rfl rfl)
theorem dX1_begin_10 : decode cX1_begin 10 = .ok (.iload_n 2, 1) := dk_28 (dk_at dksX1_begin_0 10 rfl rfl)
theorem dX1_begin_11 : decode cX1_begin 11 = .ok (.iconst 1, 1) := dk_4 (dk_at dksX1_begin_0 11 rfl rfl)
theorem dX1_begin_12 : decode cX1_begin 12 = .ok (.bipush 6, 2) := dk_16 6 (dk_at dksX1_begin_0 12 rfl rfl)
theorem dX1_begin_14 : decode cX1_begin 14 = .ok (.invokestatic 88, 3) := dk_184 0 88 (dk_at dksX1_begin_0 14 rfl rfl)
theorem dX1_begin_17 : decode cX1_begin 17 = .ok (.ifCond .eq 7, 3) := dk_153 0 7 (dk_at dksX1_begin_0 17 rfl rfl)
theorem dX1_begin_20 : decode cX1_begin 20 = .ok (.iconst 1, 1) := dk_4 (dk_at dksX1_begin_0 20 rfl rfl)
theorem dX1_begin_21 : decode cX1_begin 21 = .ok (.goto 4, 3) := dk_167 0 4 (dk_at dksX1_begin_0 21 rfl rfl)
theorem dX1_begin_24 : decode cX1_begin 24 = .ok (.iconst 0, 1) := dk_3 (dk_at dksX1_begin_1 0 rfl rfl)
theorem dX1_begin_25 : decode cX1_begin 25 = .ok (.invokestatic 135, 3) := dk_184 0 135 (dk_at dksX1_begin_1 1 rfl rfl)
theorem dX1_begin_28 : decode cX1_begin 28 = .ok (.aload_n 0, 1) := dk_42 (dk_at dksX1_begin_1 4 rfl rfl)
theorem dX1_begin_29 : decode cX1_begin 29 = .ok (.invokevirtual 138, 3) := dk_182 0 138 (dk_at dksX1_begin_1 5 rfl rfl)
theorem dX1_begin_32 : decode cX1_begin 32 = .ok (.aload_n 0, 1) := dk_42 (dk_at dksX1_begin_1 8 rfl rfl)
theorem dX1_begin_33 : decode cX1_begin 33 = .ok (.new 30, 3) := dk_187 0 30 (dk_at dksX1_begin_1 9 rfl rfl)
theorem dX1_begin_36 : decode cX1_begin 36 = .ok (.dup, 1) := dk_89 (dk_at dksX1_begin_1 12 rfl rfl)
theorem dX1_begin_37 : decode cX1_begin 37 = .ok (.iload_n 1, 1) := dk_27 (dk_at dksX1_begin_1 13 rfl rfl)
theorem dX1_begin_38 : decode cX1_begin 38 = .ok (.iload_n 2, 1) := dk_28 (dk_at dksX1_begin_1 14 rfl rfl)
theorem dX1_begin_39 : decode cX1_begin 39 = .ok (.invokespecial 32, 3) := dk_183 0 32 (dk_at dksX1_begin_1 15 rfl rfl)
theorem dX1_begin_42 : decode cX1_begin 42 = .ok (.invokestatic 35, 3) := dk_184 0 35 (dk_at dksX1_begin_1 18 rfl rfl)
theorem dX1_begin_45 : decode cX1_begin 45 = .ok (.putfield 41, 3) := dk_181 0 41 (dk_at dksX1_begin_1 21 rfl rfl)
theorem dX1_begin_48 : decode cX1_begin 48 = .ok (.iload_n 1, 1) := dk_27 (dk_at dksX1_begin_2 0 rfl rfl)
theorem dX1_begin_49 : decode cX1_begin 49 = .ok (.iload_n 2, 1) := dk_28 (dk_at dksX1_begin_2 1 rfl rfl)
theorem dX1_begin_50 : decode cX1_begin 50 = .ok (.imul, 1) := dk_104 (dk_at dksX1_begin_2 2 rfl rfl)
theorem dX1_begin_51 : decode cX1_begin 51 = .ok (.ireturn, 1) := dk_172 (dk_at dksX1_begin_2 3 rfl rfl)
abbrev cX1_inRange : ByteArray := prog_1_method_1_code
def yX1_inRange : MethodName := ⟨RX1, "inRange", "(III)Z"⟩
def dkwX1_inRange_0 : List UInt8 := [26, 27, 161, 0, 12, 26, 28, 163, 0, 7, 4, 167, 0, 4, 3, 172]
abbrev dktX1_inRange_0 : List UInt8 := dkwX1_inRange_0 ++ []
theorem dksX1_inRange_0 : cX1_inRange.data.toList.drop 0 = dktX1_inRange_0 := by decide +kernel
theorem dX1_inRange_0 : decode cX1_inRange 0 = .ok (.iload_n 0, 1) := dk_26 (dk_at dksX1_inRange_0 0 rfl rfl)
theorem dX1_inRange_1 : decode cX1_inRange 1 = .ok (.iload_n 1, 1) := dk_27 (dk_at dksX1_inRange_0 1 rfl rfl)
theorem dX1_inRange_2 : decode cX1_inRange 2 = .ok (.if_icmp .lt 12, 3) := dk_161 0 12 (dk_at dksX1_inRange_0 2 rfl rfl)
theorem dX1_inRange_5 : decode cX1_inRange 5 = .ok (.iload_n 0, 1) := dk_26 (dk_at dksX1_inRange_0 5 rfl rfl)
theorem dX1_inRange_6 : decode cX1_inRange 6 = .ok (.iload_n 2, 1) := dk_28 (dk_at dksX1_inRange_0 6 rfl rfl)
theorem dX1_inRange_7 : decode cX1_inRange 7 = .ok (.if_icmp .gt 7, 3) := dk_163 0 7 (dk_at dksX1_inRange_0 7 rfl rfl)
theorem dX1_inRange_10 : decode cX1_inRange 10 = .ok (.iconst 1, 1) := dk_4 (dk_at dksX1_inRange_0 10 rfl rfl)
theorem dX1_inRange_11 : decode cX1_inRange 11 = .ok (.goto 4, 3) := dk_167 0 4 (dk_at dksX1_inRange_0 11 rfl rfl)
theorem dX1_inRange_14 : decode cX1_inRange 14 = .ok (.iconst 0, 1) := dk_3 (dk_at dksX1_inRange_0 14 rfl rfl)
theorem dX1_inRange_15 : decode cX1_inRange 15 = .ok (.ireturn, 1) := dk_172 (dk_at dksX1_inRange_0 15 rfl rfl)
abbrev cX1_require : ByteArray := prog_1_method_2_code
def yX1_require : MethodName := ⟨RX1, "require", "(Z)V"⟩
def dkwX1_require_0 : List UInt8 := [26, 154, 0, 13, 187, 0, 1, 89, 18, 3, 183, 0, 5, 191, 177]
abbrev dktX1_require_0 : List UInt8 := dkwX1_require_0 ++ []
theorem dksX1_require_0 : cX1_require.data.toList.drop 0 = dktX1_require_0 := by decide +kernel
theorem dX1_require_0 : decode cX1_require 0 = .ok (.iload_n 0, 1) := dk_26 (dk_at dksX1_require_0 0 rfl rfl)
theorem dX1_require_1 : decode cX1_require 1 = .ok (.ifCond .ne 13, 3) := dk_154 0 13 (dk_at dksX1_require_0 1 rfl rfl)
theorem dX1_require_4 : decode cX1_require 4 = .ok (.new 1, 3) := dk_187 0 1 (dk_at dksX1_require_0 4 rfl rfl)
theorem dX1_require_7 : decode cX1_require 7 = .ok (.dup, 1) := dk_89 (dk_at dksX1_require_0 7 rfl rfl)
theorem dX1_require_8 : decode cX1_require 8 = .ok (.ldc 3, 2) := dk_18 3 (dk_at dksX1_require_0 8 rfl rfl)
theorem dX1_require_10 : decode cX1_require 10 = .ok (.invokespecial 5, 3) := dk_183 0 5 (dk_at dksX1_require_0 10 rfl rfl)
theorem dX1_require_13 : decode cX1_require 13 = .ok (.athrow, 1) := dk_191 (dk_at dksX1_require_0 13 rfl rfl)
theorem dX1_require_14 : decode cX1_require 14 = .ok (.return_, 1) := dk_177 (dk_at dksX1_require_0 14 rfl rfl)
abbrev cX1_setHeight : ByteArray := prog_1_method_17_code
def yX1_setHeight : MethodName := ⟨RX1, "setHeight", "(II)I"⟩
def dkwX1_setHeight_2 : List UInt8 := [172]
abbrev dktX1_setHeight_2 : List UInt8 := dkwX1_setHeight_2 ++ []
def dkwX1_setHeight_1 : List UInt8 := [180, 0, 141, 27, 46, 62, 42, 180, 0, 41, 187, 0, 145, 89, 42, 27, 28, 183, 0, 147, 184, 0, 150, 29]
abbrev dktX1_setHeight_1 : List UInt8 := dkwX1_setHeight_1 ++ dktX1_setHeight_2
def dkwX1_setHeight_0 : List UInt8 := [42, 27, 182, 0, 96, 28, 3, 16, 99, 184, 0, 88, 184, 0, 135, 42, 182, 0, 138, 42, 182, 0, 84]
abbrev dktX1_setHeight_0 : List UInt8 := dkwX1_setHeight_0 ++ dktX1_setHeight_1
theorem dksX1_setHeight_0 : cX1_setHeight.data.toList.drop 0 = dktX1_setHeight_0 := by decide +kernel
theorem dksX1_setHeight_1 : cX1_setHeight.data.toList.drop 23 = dktX1_setHeight_1 := dk_seg dksX1_setHeight_0 23 rfl rfl
theorem dksX1_setHeight_2 : cX1_setHeight.data.toList.drop 47 = dktX1_setHeight_2 := dk_seg dksX1_setHeight_1 24 rfl rfl
theorem dX1_setHeight_0 : decode cX1_setHeight 0 = .ok (.aload_n 0, 1) := dk_42 (dk_at dksX1_setHeight_0 0 rfl rfl)
theorem dX1_setHeight_1 : decode cX1_setHeight 1 = .ok (.iload_n 1, 1) := dk_27 (dk_at dksX1_setHeight_0 1 rfl rfl)
theorem dX1_setHeight_2 : decode cX1_setHeight 2 = .ok (.invokevirtual 96, 3) := dk_182 0 96 (dk_at dksX1_setHeight_0 2 rfl rfl)
theorem dX1_setHeight_5 : decode cX1_setHeight 5 = .ok (.iload_n 2, 1) := dk_28 (dk_at dksX1_setHeight_0 5 rfl rfl)
theorem dX1_setHeight_6 : decode cX1_setHeight 6 = .ok (.iconst 0, 1) := dk_3 (dk_at dksX1_setHeight_0 6 rfl rfl)
theorem dX1_setHeight_7 : decode cX1_setHeight 7 = .ok (.bipush 99, 2) := dk_16 99 (dk_at dksX1_setHeight_0 7 rfl rfl)
theorem dX1_setHeight_9 : decode cX1_setHeight 9 = .ok (.invokestatic 88, 3) := dk_184 0 88 (dk_at dksX1_setHeight_0 9 rfl rfl)
theorem dX1_setHeight_12 : decode cX1_setHeight 12 = .ok (.invokestatic 135, 3) := dk_184 0 135 (dk_at dksX1_setHeight_0 12 rfl rfl)
theorem dX1_setHeight_15 : decode cX1_setHeight 15 = .ok (.aload_n 0, 1) := dk_42 (dk_at dksX1_setHeight_0 15 rfl rfl)
theorem dX1_setHeight_16 : decode cX1_setHeight 16 = .ok (.invokevirtual 138, 3) := dk_182 0 138 (dk_at dksX1_setHeight_0 16 rfl rfl)
theorem dX1_setHeight_19 : decode cX1_setHeight 19 = .ok (.aload_n 0, 1) := dk_42 (dk_at dksX1_setHeight_0 19 rfl rfl)
theorem dX1_setHeight_20 : decode cX1_setHeight 20 = .ok (.invokevirtual 84, 3) := dk_182 0 84 (dk_at dksX1_setHeight_0 20 rfl rfl)
theorem dX1_setHeight_23 : decode cX1_setHeight 23 = .ok (.getfield 141, 3) := dk_180 0 141 (dk_at dksX1_setHeight_1 0 rfl rfl)
theorem dX1_setHeight_26 : decode cX1_setHeight 26 = .ok (.iload_n 1, 1) := dk_27 (dk_at dksX1_setHeight_1 3 rfl rfl)
theorem dX1_setHeight_27 : decode cX1_setHeight 27 = .ok (.iaload, 1) := dk_46 (dk_at dksX1_setHeight_1 4 rfl rfl)
theorem dX1_setHeight_28 : decode cX1_setHeight 28 = .ok (.istore_n 3, 1) := dk_62 (dk_at dksX1_setHeight_1 5 rfl rfl)
theorem dX1_setHeight_29 : decode cX1_setHeight 29 = .ok (.aload_n 0, 1) := dk_42 (dk_at dksX1_setHeight_1 6 rfl rfl)
theorem dX1_setHeight_30 : decode cX1_setHeight 30 = .ok (.getfield 41, 3) := dk_180 0 41 (dk_at dksX1_setHeight_1 7 rfl rfl)
theorem dX1_setHeight_33 : decode cX1_setHeight 33 = .ok (.new 145, 3) := dk_187 0 145 (dk_at dksX1_setHeight_1 10 rfl rfl)
theorem dX1_setHeight_36 : decode cX1_setHeight 36 = .ok (.dup, 1) := dk_89 (dk_at dksX1_setHeight_1 13 rfl rfl)
theorem dX1_setHeight_37 : decode cX1_setHeight 37 = .ok (.aload_n 0, 1) := dk_42 (dk_at dksX1_setHeight_1 14 rfl rfl)
theorem dX1_setHeight_38 : decode cX1_setHeight 38 = .ok (.iload_n 1, 1) := dk_27 (dk_at dksX1_setHeight_1 15 rfl rfl)
theorem dX1_setHeight_39 : decode cX1_setHeight 39 = .ok (.iload_n 2, 1) := dk_28 (dk_at dksX1_setHeight_1 16 rfl rfl)
theorem dX1_setHeight_40 : decode cX1_setHeight 40 = .ok (.invokespecial 147, 3) := dk_183 0 147 (dk_at dksX1_setHeight_1 17 rfl rfl)
theorem dX1_setHeight_43 : decode cX1_setHeight 43 = .ok (.invokestatic 150, 3) := dk_184 0 150 (dk_at dksX1_setHeight_1 20 rfl rfl)
theorem dX1_setHeight_46 : decode cX1_setHeight 46 = .ok (.iload_n 3, 1) := dk_29 (dk_at dksX1_setHeight_1 23 rfl rfl)
theorem dX1_setHeight_47 : decode cX1_setHeight 47 = .ok (.ireturn, 1) := dk_172 (dk_at dksX1_setHeight_2 0 rfl rfl)
abbrev cX1_requireCell : ByteArray := prog_1_method_12_code
def yX1_requireCell : MethodName := ⟨RX1, "requireCell", "(I)V"⟩
def dkwX1_requireCell_0 : List UInt8 := [27, 3, 42, 182, 0, 84, 182, 0, 87, 4, 100, 184, 0, 88, 184, 0, 92, 177]
abbrev dktX1_requireCell_0 : List UInt8 := dkwX1_requireCell_0 ++ []
theorem dksX1_requireCell_0 : cX1_requireCell.data.toList.drop 0 = dktX1_requireCell_0 := by decide +kernel
theorem dX1_requireCell_0 : decode cX1_requireCell 0 = .ok (.iload_n 1, 1) := dk_27 (dk_at dksX1_requireCell_0 0 rfl rfl)
theorem dX1_requireCell_1 : decode cX1_requireCell 1 = .ok (.iconst 0, 1) := dk_3 (dk_at dksX1_requireCell_0 1 rfl rfl)
theorem dX1_requireCell_2 : decode cX1_requireCell 2 = .ok (.aload_n 0, 1) := dk_42 (dk_at dksX1_requireCell_0 2 rfl rfl)
theorem dX1_requireCell_3 : decode cX1_requireCell 3 = .ok (.invokevirtual 84, 3) := dk_182 0 84 (dk_at dksX1_requireCell_0 3 rfl rfl)
theorem dX1_requireCell_6 : decode cX1_requireCell 6 = .ok (.invokevirtual 87, 3) := dk_182 0 87 (dk_at dksX1_requireCell_0 6 rfl rfl)
theorem dX1_requireCell_9 : decode cX1_requireCell 9 = .ok (.iconst 1, 1) := dk_4 (dk_at dksX1_requireCell_0 9 rfl rfl)
theorem dX1_requireCell_10 : decode cX1_requireCell 10 = .ok (.isub, 1) := dk_100 (dk_at dksX1_requireCell_0 10 rfl rfl)
theorem dX1_requireCell_11 : decode cX1_requireCell 11 = .ok (.invokestatic 88, 3) := dk_184 0 88 (dk_at dksX1_requireCell_0 11 rfl rfl)
theorem dX1_requireCell_14 : decode cX1_requireCell 14 = .ok (.invokestatic 92, 3) := dk_184 0 92 (dk_at dksX1_requireCell_0 14 rfl rfl)
theorem dX1_requireCell_17 : decode cX1_requireCell 17 = .ok (.return_, 1) := dk_177 (dk_at dksX1_requireCell_0 17 rfl rfl)
abbrev cX1_requireIndex : ByteArray := prog_1_method_3_code
def yX1_requireIndex : MethodName := ⟨RX1, "requireIndex", "(Z)V"⟩
def dkwX1_requireIndex_0 : List UInt8 := [26, 154, 0, 13, 187, 0, 9, 89, 18, 11, 183, 0, 13, 191, 177]
abbrev dktX1_requireIndex_0 : List UInt8 := dkwX1_requireIndex_0 ++ []
theorem dksX1_requireIndex_0 : cX1_requireIndex.data.toList.drop 0 = dktX1_requireIndex_0 := by decide +kernel
theorem dX1_requireIndex_0 : decode cX1_requireIndex 0 = .ok (.iload_n 0, 1) := dk_26 (dk_at dksX1_requireIndex_0 0 rfl rfl)
theorem dX1_requireIndex_1 : decode cX1_requireIndex 1 = .ok (.ifCond .ne 13, 3) := dk_154 0 13 (dk_at dksX1_requireIndex_0 1 rfl rfl)
theorem dX1_requireIndex_4 : decode cX1_requireIndex 4 = .ok (.new 9, 3) := dk_187 0 9 (dk_at dksX1_requireIndex_0 4 rfl rfl)
theorem dX1_requireIndex_7 : decode cX1_requireIndex 7 = .ok (.dup, 1) := dk_89 (dk_at dksX1_requireIndex_0 7 rfl rfl)
theorem dX1_requireIndex_8 : decode cX1_requireIndex 8 = .ok (.ldc 11, 2) := dk_18 11 (dk_at dksX1_requireIndex_0 8 rfl rfl)
theorem dX1_requireIndex_10 : decode cX1_requireIndex 10 = .ok (.invokespecial 13, 3) := dk_183 0 13 (dk_at dksX1_requireIndex_0 10 rfl rfl)
theorem dX1_requireIndex_13 : decode cX1_requireIndex 13 = .ok (.athrow, 1) := dk_191 (dk_at dksX1_requireIndex_0 13 rfl rfl)
theorem dX1_requireIndex_14 : decode cX1_requireIndex 14 = .ok (.return_, 1) := dk_177 (dk_at dksX1_requireIndex_0 14 rfl rfl)
abbrev cX1_change : ByteArray := prog_1_method_15_code
def yX1_change : MethodName := ⟨RX1, "change", "(LLakeLevels$State;LLakeLevels$Change;)V"⟩
def dkwX1_change_1 : List UInt8 := [185, 0, 126, 2, 0, 42, 44, 45, 182, 0, 131, 177]
abbrev dktX1_change_1 : List UInt8 := dkwX1_change_1 ++ []
def dkwX1_change_0 : List UInt8 := [187, 0, 117, 89, 42, 180, 0, 104, 183, 0, 119, 77, 42, 182, 0, 122, 78, 43, 42, 180, 0, 80]
abbrev dktX1_change_0 : List UInt8 := dkwX1_change_0 ++ dktX1_change_1
theorem dksX1_change_0 : cX1_change.data.toList.drop 0 = dktX1_change_0 := by decide +kernel
theorem dksX1_change_1 : cX1_change.data.toList.drop 22 = dktX1_change_1 := dk_seg dksX1_change_0 22 rfl rfl
theorem dX1_change_0 : decode cX1_change 0 = .ok (.new 117, 3) := dk_187 0 117 (dk_at dksX1_change_0 0 rfl rfl)
theorem dX1_change_3 : decode cX1_change 3 = .ok (.dup, 1) := dk_89 (dk_at dksX1_change_0 3 rfl rfl)
theorem dX1_change_4 : decode cX1_change 4 = .ok (.aload_n 0, 1) := dk_42 (dk_at dksX1_change_0 4 rfl rfl)
theorem dX1_change_5 : decode cX1_change 5 = .ok (.getfield 104, 3) := dk_180 0 104 (dk_at dksX1_change_0 5 rfl rfl)
theorem dX1_change_8 : decode cX1_change 8 = .ok (.invokespecial 119, 3) := dk_183 0 119 (dk_at dksX1_change_0 8 rfl rfl)
theorem dX1_change_11 : decode cX1_change 11 = .ok (.astore_n 2, 1) := dk_77 (dk_at dksX1_change_0 11 rfl rfl)
theorem dX1_change_12 : decode cX1_change 12 = .ok (.aload_n 0, 1) := dk_42 (dk_at dksX1_change_0 12 rfl rfl)
theorem dX1_change_13 : decode cX1_change 13 = .ok (.invokevirtual 122, 3) := dk_182 0 122 (dk_at dksX1_change_0 13 rfl rfl)
theorem dX1_change_16 : decode cX1_change 16 = .ok (.astore_n 3, 1) := dk_78 (dk_at dksX1_change_0 16 rfl rfl)
theorem dX1_change_17 : decode cX1_change 17 = .ok (.aload_n 1, 1) := dk_43 (dk_at dksX1_change_0 17 rfl rfl)
theorem dX1_change_18 : decode cX1_change 18 = .ok (.aload_n 0, 1) := dk_42 (dk_at dksX1_change_0 18 rfl rfl)
theorem dX1_change_19 : decode cX1_change 19 = .ok (.getfield 80, 3) := dk_180 0 80 (dk_at dksX1_change_0 19 rfl rfl)
theorem dX1_change_22 : decode cX1_change 22 = .ok (.invokeinterface 126 2, 5) := by decide +kernel
theorem dX1_change_27 : decode cX1_change 27 = .ok (.aload_n 0, 1) := dk_42 (dk_at dksX1_change_1 5 rfl rfl)
theorem dX1_change_28 : decode cX1_change 28 = .ok (.aload_n 2, 1) := dk_44 (dk_at dksX1_change_1 6 rfl rfl)
theorem dX1_change_29 : decode cX1_change 29 = .ok (.aload_n 3, 1) := dk_45 (dk_at dksX1_change_1 7 rfl rfl)
theorem dX1_change_30 : decode cX1_change 30 = .ok (.invokevirtual 131, 3) := dk_182 0 131 (dk_at dksX1_change_1 8 rfl rfl)
theorem dX1_change_33 : decode cX1_change 33 = .ok (.return_, 1) := dk_177 (dk_at dksX1_change_1 11 rfl rfl)
abbrev cX1_setDrain : ByteArray := prog_1_method_18_code
def yX1_setDrain : MethodName := ⟨RX1, "setDrain", "(IZ)Z"⟩
def dkwX1_setDrain_1 : List UInt8 := [180, 0, 41, 187, 0, 162, 89, 42, 28, 27, 183, 0, 164, 184, 0, 150, 29, 172]
abbrev dktX1_setDrain_1 : List UInt8 := dkwX1_setDrain_1 ++ []
def dkwX1_setDrain_0 : List UInt8 := [42, 27, 182, 0, 96, 42, 182, 0, 138, 42, 182, 0, 84, 180, 0, 154, 27, 184, 0, 158, 62, 42]
abbrev dktX1_setDrain_0 : List UInt8 := dkwX1_setDrain_0 ++ dktX1_setDrain_1
theorem dksX1_setDrain_0 : cX1_setDrain.data.toList.drop 0 = dktX1_setDrain_0 := by decide +kernel
theorem dksX1_setDrain_1 : cX1_setDrain.data.toList.drop 22 = dktX1_setDrain_1 := dk_seg dksX1_setDrain_0 22 rfl rfl
theorem dX1_setDrain_0 : decode cX1_setDrain 0 = .ok (.aload_n 0, 1) := dk_42 (dk_at dksX1_setDrain_0 0 rfl rfl)
theorem dX1_setDrain_1 : decode cX1_setDrain 1 = .ok (.iload_n 1, 1) := dk_27 (dk_at dksX1_setDrain_0 1 rfl rfl)
theorem dX1_setDrain_2 : decode cX1_setDrain 2 = .ok (.invokevirtual 96, 3) := dk_182 0 96 (dk_at dksX1_setDrain_0 2 rfl rfl)
theorem dX1_setDrain_5 : decode cX1_setDrain 5 = .ok (.aload_n 0, 1) := dk_42 (dk_at dksX1_setDrain_0 5 rfl rfl)
theorem dX1_setDrain_6 : decode cX1_setDrain 6 = .ok (.invokevirtual 138, 3) := dk_182 0 138 (dk_at dksX1_setDrain_0 6 rfl rfl)
theorem dX1_setDrain_9 : decode cX1_setDrain 9 = .ok (.aload_n 0, 1) := dk_42 (dk_at dksX1_setDrain_0 9 rfl rfl)
theorem dX1_setDrain_10 : decode cX1_setDrain 10 = .ok (.invokevirtual 84, 3) := dk_182 0 84 (dk_at dksX1_setDrain_0 10 rfl rfl)
theorem dX1_setDrain_13 : decode cX1_setDrain 13 = .ok (.getfield 154, 3) := dk_180 0 154 (dk_at dksX1_setDrain_0 13 rfl rfl)
theorem dX1_setDrain_16 : decode cX1_setDrain 16 = .ok (.iload_n 1, 1) := dk_27 (dk_at dksX1_setDrain_0 16 rfl rfl)
theorem dX1_setDrain_17 : decode cX1_setDrain 17 = .ok (.invokestatic 158, 3) := dk_184 0 158 (dk_at dksX1_setDrain_0 17 rfl rfl)
theorem dX1_setDrain_20 : decode cX1_setDrain 20 = .ok (.istore_n 3, 1) := dk_62 (dk_at dksX1_setDrain_0 20 rfl rfl)
theorem dX1_setDrain_21 : decode cX1_setDrain 21 = .ok (.aload_n 0, 1) := dk_42 (dk_at dksX1_setDrain_0 21 rfl rfl)
theorem dX1_setDrain_22 : decode cX1_setDrain 22 = .ok (.getfield 41, 3) := dk_180 0 41 (dk_at dksX1_setDrain_1 0 rfl rfl)
theorem dX1_setDrain_25 : decode cX1_setDrain 25 = .ok (.new 162, 3) := dk_187 0 162 (dk_at dksX1_setDrain_1 3 rfl rfl)
theorem dX1_setDrain_28 : decode cX1_setDrain 28 = .ok (.dup, 1) := dk_89 (dk_at dksX1_setDrain_1 6 rfl rfl)
theorem dX1_setDrain_29 : decode cX1_setDrain 29 = .ok (.aload_n 0, 1) := dk_42 (dk_at dksX1_setDrain_1 7 rfl rfl)
theorem dX1_setDrain_30 : decode cX1_setDrain 30 = .ok (.iload_n 2, 1) := dk_28 (dk_at dksX1_setDrain_1 8 rfl rfl)
theorem dX1_setDrain_31 : decode cX1_setDrain 31 = .ok (.iload_n 1, 1) := dk_27 (dk_at dksX1_setDrain_1 9 rfl rfl)
theorem dX1_setDrain_32 : decode cX1_setDrain 32 = .ok (.invokespecial 164, 3) := dk_183 0 164 (dk_at dksX1_setDrain_1 10 rfl rfl)
theorem dX1_setDrain_35 : decode cX1_setDrain 35 = .ok (.invokestatic 150, 3) := dk_184 0 150 (dk_at dksX1_setDrain_1 13 rfl rfl)
theorem dX1_setDrain_38 : decode cX1_setDrain 38 = .ok (.iload_n 3, 1) := dk_29 (dk_at dksX1_setDrain_1 16 rfl rfl)
theorem dX1_setDrain_39 : decode cX1_setDrain 39 = .ok (.ireturn, 1) := dk_172 (dk_at dksX1_setDrain_1 17 rfl rfl)
abbrev cX1_setGate : ByteArray := prog_1_method_19_code
def yX1_setGate : MethodName := ⟨RX1, "setGate", "(III)I"⟩
def dkwX1_setGate_2 : List UInt8 := [21, 4, 172]
abbrev dktX1_setGate_2 : List UInt8 := dkwX1_setGate_2 ++ []
def dkwX1_setGate_1 : List UInt8 := [27, 28, 182, 0, 170, 54, 4, 42, 180, 0, 41, 187, 0, 174, 89, 27, 28, 29, 183, 0, 176, 184, 0, 150]
abbrev dktX1_setGate_1 : List UInt8 := dkwX1_setGate_1 ++ dktX1_setGate_2
def dkwX1_setGate_0 : List UInt8 := [42, 27, 28, 182, 0, 167, 29, 2, 16, 99, 184, 0, 88, 184, 0, 135, 42, 182, 0, 138, 42, 182, 0, 84]
abbrev dktX1_setGate_0 : List UInt8 := dkwX1_setGate_0 ++ dktX1_setGate_1
theorem dksX1_setGate_0 : cX1_setGate.data.toList.drop 0 = dktX1_setGate_0 := by decide +kernel
theorem dksX1_setGate_1 : cX1_setGate.data.toList.drop 24 = dktX1_setGate_1 := dk_seg dksX1_setGate_0 24 rfl rfl
theorem dksX1_setGate_2 : cX1_setGate.data.toList.drop 48 = dktX1_setGate_2 := dk_seg dksX1_setGate_1 24 rfl rfl
theorem dX1_setGate_0 : decode cX1_setGate 0 = .ok (.aload_n 0, 1) := dk_42 (dk_at dksX1_setGate_0 0 rfl rfl)
theorem dX1_setGate_1 : decode cX1_setGate 1 = .ok (.iload_n 1, 1) := dk_27 (dk_at dksX1_setGate_0 1 rfl rfl)
theorem dX1_setGate_2 : decode cX1_setGate 2 = .ok (.iload_n 2, 1) := dk_28 (dk_at dksX1_setGate_0 2 rfl rfl)
theorem dX1_setGate_3 : decode cX1_setGate 3 = .ok (.invokevirtual 167, 3) := dk_182 0 167 (dk_at dksX1_setGate_0 3 rfl rfl)
theorem dX1_setGate_6 : decode cX1_setGate 6 = .ok (.iload_n 3, 1) := dk_29 (dk_at dksX1_setGate_0 6 rfl rfl)
theorem dX1_setGate_7 : decode cX1_setGate 7 = .ok (.iconst (-1), 1) := dk_2 (dk_at dksX1_setGate_0 7 rfl rfl)
theorem dX1_setGate_8 : decode cX1_setGate 8 = .ok (.bipush 99, 2) := dk_16 99 (dk_at dksX1_setGate_0 8 rfl rfl)
theorem dX1_setGate_10 : decode cX1_setGate 10 = .ok (.invokestatic 88, 3) := dk_184 0 88 (dk_at dksX1_setGate_0 10 rfl rfl)
theorem dX1_setGate_13 : decode cX1_setGate 13 = .ok (.invokestatic 135, 3) := dk_184 0 135 (dk_at dksX1_setGate_0 13 rfl rfl)
theorem dX1_setGate_16 : decode cX1_setGate 16 = .ok (.aload_n 0, 1) := dk_42 (dk_at dksX1_setGate_0 16 rfl rfl)
theorem dX1_setGate_17 : decode cX1_setGate 17 = .ok (.invokevirtual 138, 3) := dk_182 0 138 (dk_at dksX1_setGate_0 17 rfl rfl)
theorem dX1_setGate_20 : decode cX1_setGate 20 = .ok (.aload_n 0, 1) := dk_42 (dk_at dksX1_setGate_0 20 rfl rfl)
theorem dX1_setGate_21 : decode cX1_setGate 21 = .ok (.invokevirtual 84, 3) := dk_182 0 84 (dk_at dksX1_setGate_0 21 rfl rfl)
theorem dX1_setGate_24 : decode cX1_setGate 24 = .ok (.iload_n 1, 1) := dk_27 (dk_at dksX1_setGate_1 0 rfl rfl)
theorem dX1_setGate_25 : decode cX1_setGate 25 = .ok (.iload_n 2, 1) := dk_28 (dk_at dksX1_setGate_1 1 rfl rfl)
theorem dX1_setGate_26 : decode cX1_setGate 26 = .ok (.invokevirtual 170, 3) := dk_182 0 170 (dk_at dksX1_setGate_1 2 rfl rfl)
theorem dX1_setGate_29 : decode cX1_setGate 29 = .ok (.istore 4, 2) := dk_54 4 (dk_at dksX1_setGate_1 5 rfl rfl)
theorem dX1_setGate_31 : decode cX1_setGate 31 = .ok (.aload_n 0, 1) := dk_42 (dk_at dksX1_setGate_1 7 rfl rfl)
theorem dX1_setGate_32 : decode cX1_setGate 32 = .ok (.getfield 41, 3) := dk_180 0 41 (dk_at dksX1_setGate_1 8 rfl rfl)
theorem dX1_setGate_35 : decode cX1_setGate 35 = .ok (.new 174, 3) := dk_187 0 174 (dk_at dksX1_setGate_1 11 rfl rfl)
theorem dX1_setGate_38 : decode cX1_setGate 38 = .ok (.dup, 1) := dk_89 (dk_at dksX1_setGate_1 14 rfl rfl)
theorem dX1_setGate_39 : decode cX1_setGate 39 = .ok (.iload_n 1, 1) := dk_27 (dk_at dksX1_setGate_1 15 rfl rfl)
theorem dX1_setGate_40 : decode cX1_setGate 40 = .ok (.iload_n 2, 1) := dk_28 (dk_at dksX1_setGate_1 16 rfl rfl)
theorem dX1_setGate_41 : decode cX1_setGate 41 = .ok (.iload_n 3, 1) := dk_29 (dk_at dksX1_setGate_1 17 rfl rfl)
theorem dX1_setGate_42 : decode cX1_setGate 42 = .ok (.invokespecial 176, 3) := dk_183 0 176 (dk_at dksX1_setGate_1 18 rfl rfl)
theorem dX1_setGate_45 : decode cX1_setGate 45 = .ok (.invokestatic 150, 3) := dk_184 0 150 (dk_at dksX1_setGate_1 21 rfl rfl)
theorem dX1_setGate_48 : decode cX1_setGate 48 = .ok (.iload 4, 2) := dk_21 4 (dk_at dksX1_setGate_2 0 rfl rfl)
theorem dX1_setGate_50 : decode cX1_setGate 50 = .ok (.ireturn, 1) := dk_172 (dk_at dksX1_setGate_2 2 rfl rfl)
abbrev cX1_requireNeighbors : ByteArray := prog_1_method_13_code
def yX1_requireNeighbors : MethodName := ⟨RX1, "requireNeighbors", "(II)V"⟩
def dkwX1_requireNeighbors_0 : List UInt8 := [42, 27, 182, 0, 96, 42, 28, 182, 0, 96, 42, 182, 0, 84, 27, 28, 182, 0, 100, 184, 0, 92, 177]
abbrev dktX1_requireNeighbors_0 : List UInt8 := dkwX1_requireNeighbors_0 ++ []
theorem dksX1_requireNeighbors_0 : cX1_requireNeighbors.data.toList.drop 0 = dktX1_requireNeighbors_0 := by decide +kernel
theorem dX1_requireNeighbors_0 : decode cX1_requireNeighbors 0 = .ok (.aload_n 0, 1) := dk_42 (dk_at dksX1_requireNeighbors_0 0 rfl rfl)
theorem dX1_requireNeighbors_1 : decode cX1_requireNeighbors 1 = .ok (.iload_n 1, 1) := dk_27 (dk_at dksX1_requireNeighbors_0 1 rfl rfl)
theorem dX1_requireNeighbors_2 : decode cX1_requireNeighbors 2 = .ok (.invokevirtual 96, 3) := dk_182 0 96 (dk_at dksX1_requireNeighbors_0 2 rfl rfl)
theorem dX1_requireNeighbors_5 : decode cX1_requireNeighbors 5 = .ok (.aload_n 0, 1) := dk_42 (dk_at dksX1_requireNeighbors_0 5 rfl rfl)
theorem dX1_requireNeighbors_6 : decode cX1_requireNeighbors 6 = .ok (.iload_n 2, 1) := dk_28 (dk_at dksX1_requireNeighbors_0 6 rfl rfl)
theorem dX1_requireNeighbors_7 : decode cX1_requireNeighbors 7 = .ok (.invokevirtual 96, 3) := dk_182 0 96 (dk_at dksX1_requireNeighbors_0 7 rfl rfl)
theorem dX1_requireNeighbors_10 : decode cX1_requireNeighbors 10 = .ok (.aload_n 0, 1) := dk_42 (dk_at dksX1_requireNeighbors_0 10 rfl rfl)
theorem dX1_requireNeighbors_11 : decode cX1_requireNeighbors 11 = .ok (.invokevirtual 84, 3) := dk_182 0 84 (dk_at dksX1_requireNeighbors_0 11 rfl rfl)
theorem dX1_requireNeighbors_14 : decode cX1_requireNeighbors 14 = .ok (.iload_n 1, 1) := dk_27 (dk_at dksX1_requireNeighbors_0 14 rfl rfl)
theorem dX1_requireNeighbors_15 : decode cX1_requireNeighbors 15 = .ok (.iload_n 2, 1) := dk_28 (dk_at dksX1_requireNeighbors_0 15 rfl rfl)
theorem dX1_requireNeighbors_16 : decode cX1_requireNeighbors 16 = .ok (.invokevirtual 100, 3) := dk_182 0 100 (dk_at dksX1_requireNeighbors_0 16 rfl rfl)
theorem dX1_requireNeighbors_19 : decode cX1_requireNeighbors 19 = .ok (.invokestatic 92, 3) := dk_184 0 92 (dk_at dksX1_requireNeighbors_0 19 rfl rfl)
theorem dX1_requireNeighbors_22 : decode cX1_requireNeighbors 22 = .ok (.return_, 1) := dk_177 (dk_at dksX1_requireNeighbors_0 22 rfl rfl)
abbrev cX1_random : ByteArray := prog_1_method_20_code
def yX1_random : MethodName := ⟨RX1, "random", "(II)I"⟩
def dkwX1_random_2 : List UInt8 := [184, 0, 150, 42, 182, 0, 84, 180, 0, 183, 172]
abbrev dktX1_random_2 : List UInt8 := dkwX1_random_2 ++ []
def dkwX1_random_1 : List UInt8 := [3, 184, 0, 135, 42, 182, 0, 138, 42, 180, 0, 41, 187, 0, 180, 89, 42, 27, 28, 183, 0, 182]
abbrev dktX1_random_1 : List UInt8 := dkwX1_random_1 ++ dktX1_random_2
def dkwX1_random_0 : List UInt8 := [27, 3, 18, 179, 184, 0, 88, 153, 0, 17, 28, 3, 16, 99, 184, 0, 88, 153, 0, 7, 4, 167, 0, 4]
abbrev dktX1_random_0 : List UInt8 := dkwX1_random_0 ++ dktX1_random_1
theorem dksX1_random_0 : cX1_random.data.toList.drop 0 = dktX1_random_0 := by decide +kernel
theorem dksX1_random_1 : cX1_random.data.toList.drop 24 = dktX1_random_1 := dk_seg dksX1_random_0 24 rfl rfl
theorem dksX1_random_2 : cX1_random.data.toList.drop 46 = dktX1_random_2 := dk_seg dksX1_random_1 22 rfl rfl
theorem dX1_random_0 : decode cX1_random 0 = .ok (.iload_n 1, 1) := dk_27 (dk_at dksX1_random_0 0 rfl rfl)
theorem dX1_random_1 : decode cX1_random 1 = .ok (.iconst 0, 1) := dk_3 (dk_at dksX1_random_0 1 rfl rfl)
theorem dX1_random_2 : decode cX1_random 2 = .ok (.ldc 179, 2) := dk_18 179 (dk_at dksX1_random_0 2 rfl rfl)
theorem dX1_random_4 : decode cX1_random 4 = .ok (.invokestatic 88, 3) := dk_184 0 88 (dk_at dksX1_random_0 4 rfl rfl)
theorem dX1_random_7 : decode cX1_random 7 = .ok (.ifCond .eq 17, 3) := dk_153 0 17 (dk_at dksX1_random_0 7 rfl rfl)
theorem dX1_random_10 : decode cX1_random 10 = .ok (.iload_n 2, 1) := dk_28 (dk_at dksX1_random_0 10 rfl rfl)
theorem dX1_random_11 : decode cX1_random 11 = .ok (.iconst 0, 1) := dk_3 (dk_at dksX1_random_0 11 rfl rfl)
theorem dX1_random_12 : decode cX1_random 12 = .ok (.bipush 99, 2) := dk_16 99 (dk_at dksX1_random_0 12 rfl rfl)
theorem dX1_random_14 : decode cX1_random 14 = .ok (.invokestatic 88, 3) := dk_184 0 88 (dk_at dksX1_random_0 14 rfl rfl)
theorem dX1_random_17 : decode cX1_random 17 = .ok (.ifCond .eq 7, 3) := dk_153 0 7 (dk_at dksX1_random_0 17 rfl rfl)
theorem dX1_random_20 : decode cX1_random 20 = .ok (.iconst 1, 1) := dk_4 (dk_at dksX1_random_0 20 rfl rfl)
theorem dX1_random_21 : decode cX1_random 21 = .ok (.goto 4, 3) := dk_167 0 4 (dk_at dksX1_random_0 21 rfl rfl)
theorem dX1_random_24 : decode cX1_random 24 = .ok (.iconst 0, 1) := dk_3 (dk_at dksX1_random_1 0 rfl rfl)
theorem dX1_random_25 : decode cX1_random 25 = .ok (.invokestatic 135, 3) := dk_184 0 135 (dk_at dksX1_random_1 1 rfl rfl)
theorem dX1_random_28 : decode cX1_random 28 = .ok (.aload_n 0, 1) := dk_42 (dk_at dksX1_random_1 4 rfl rfl)
theorem dX1_random_29 : decode cX1_random 29 = .ok (.invokevirtual 138, 3) := dk_182 0 138 (dk_at dksX1_random_1 5 rfl rfl)
theorem dX1_random_32 : decode cX1_random 32 = .ok (.aload_n 0, 1) := dk_42 (dk_at dksX1_random_1 8 rfl rfl)
theorem dX1_random_33 : decode cX1_random 33 = .ok (.getfield 41, 3) := dk_180 0 41 (dk_at dksX1_random_1 9 rfl rfl)
theorem dX1_random_36 : decode cX1_random 36 = .ok (.new 180, 3) := dk_187 0 180 (dk_at dksX1_random_1 12 rfl rfl)
theorem dX1_random_39 : decode cX1_random 39 = .ok (.dup, 1) := dk_89 (dk_at dksX1_random_1 15 rfl rfl)
theorem dX1_random_40 : decode cX1_random 40 = .ok (.aload_n 0, 1) := dk_42 (dk_at dksX1_random_1 16 rfl rfl)
theorem dX1_random_41 : decode cX1_random 41 = .ok (.iload_n 1, 1) := dk_27 (dk_at dksX1_random_1 17 rfl rfl)
theorem dX1_random_42 : decode cX1_random 42 = .ok (.iload_n 2, 1) := dk_28 (dk_at dksX1_random_1 18 rfl rfl)
theorem dX1_random_43 : decode cX1_random 43 = .ok (.invokespecial 182, 3) := dk_183 0 182 (dk_at dksX1_random_1 19 rfl rfl)
theorem dX1_random_46 : decode cX1_random 46 = .ok (.invokestatic 150, 3) := dk_184 0 150 (dk_at dksX1_random_2 0 rfl rfl)
theorem dX1_random_49 : decode cX1_random 49 = .ok (.aload_n 0, 1) := dk_42 (dk_at dksX1_random_2 3 rfl rfl)
theorem dX1_random_50 : decode cX1_random 50 = .ok (.invokevirtual 84, 3) := dk_182 0 84 (dk_at dksX1_random_2 4 rfl rfl)
theorem dX1_random_53 : decode cX1_random 53 = .ok (.getfield 183, 3) := dk_180 0 183 (dk_at dksX1_random_2 7 rfl rfl)
theorem dX1_random_56 : decode cX1_random 56 = .ok (.ireturn, 1) := dk_172 (dk_at dksX1_random_2 10 rfl rfl)
abbrev cX1_cell : ByteArray := prog_1_method_21_code
def yX1_cell : MethodName := ⟨RX1, "cell", "(II)I"⟩
def dkwX1_cell_0 : List UInt8 := [42, 27, 182, 0, 96, 28, 3, 8, 184, 0, 88, 184, 0, 135, 42, 180, 0, 41, 27, 28, 182, 0, 187, 172]
abbrev dktX1_cell_0 : List UInt8 := dkwX1_cell_0 ++ []
theorem dksX1_cell_0 : cX1_cell.data.toList.drop 0 = dktX1_cell_0 := by decide +kernel
theorem dX1_cell_0 : decode cX1_cell 0 = .ok (.aload_n 0, 1) := dk_42 (dk_at dksX1_cell_0 0 rfl rfl)
theorem dX1_cell_1 : decode cX1_cell 1 = .ok (.iload_n 1, 1) := dk_27 (dk_at dksX1_cell_0 1 rfl rfl)
theorem dX1_cell_2 : decode cX1_cell 2 = .ok (.invokevirtual 96, 3) := dk_182 0 96 (dk_at dksX1_cell_0 2 rfl rfl)
theorem dX1_cell_5 : decode cX1_cell 5 = .ok (.iload_n 2, 1) := dk_28 (dk_at dksX1_cell_0 5 rfl rfl)
theorem dX1_cell_6 : decode cX1_cell 6 = .ok (.iconst 0, 1) := dk_3 (dk_at dksX1_cell_0 6 rfl rfl)
theorem dX1_cell_7 : decode cX1_cell 7 = .ok (.iconst 5, 1) := dk_8 (dk_at dksX1_cell_0 7 rfl rfl)
theorem dX1_cell_8 : decode cX1_cell 8 = .ok (.invokestatic 88, 3) := dk_184 0 88 (dk_at dksX1_cell_0 8 rfl rfl)
theorem dX1_cell_11 : decode cX1_cell 11 = .ok (.invokestatic 135, 3) := dk_184 0 135 (dk_at dksX1_cell_0 11 rfl rfl)
theorem dX1_cell_14 : decode cX1_cell 14 = .ok (.aload_n 0, 1) := dk_42 (dk_at dksX1_cell_0 14 rfl rfl)
theorem dX1_cell_15 : decode cX1_cell 15 = .ok (.getfield 41, 3) := dk_180 0 41 (dk_at dksX1_cell_0 15 rfl rfl)
theorem dX1_cell_18 : decode cX1_cell 18 = .ok (.iload_n 1, 1) := dk_27 (dk_at dksX1_cell_0 18 rfl rfl)
theorem dX1_cell_19 : decode cX1_cell 19 = .ok (.iload_n 2, 1) := dk_28 (dk_at dksX1_cell_0 19 rfl rfl)
theorem dX1_cell_20 : decode cX1_cell 20 = .ok (.invokevirtual 187, 3) := dk_182 0 187 (dk_at dksX1_cell_0 20 rfl rfl)
theorem dX1_cell_23 : decode cX1_cell 23 = .ok (.ireturn, 1) := dk_172 (dk_at dksX1_cell_0 23 rfl rfl)
abbrev cX1_between : ByteArray := prog_1_method_22_code
def yX1_between : MethodName := ⟨RX1, "between", "(IIZ)I"⟩
def dkwX1_between_1 : List UInt8 := [182, 0, 84, 27, 28, 182, 0, 170, 172]
abbrev dktX1_between_1 : List UInt8 := dkwX1_between_1 ++ []
def dkwX1_between_0 : List UInt8 := [42, 27, 28, 182, 0, 167, 29, 153, 0, 15, 42, 182, 0, 84, 27, 28, 182, 0, 190, 167, 0, 12, 42]
abbrev dktX1_between_0 : List UInt8 := dkwX1_between_0 ++ dktX1_between_1
theorem dksX1_between_0 : cX1_between.data.toList.drop 0 = dktX1_between_0 := by decide +kernel
theorem dksX1_between_1 : cX1_between.data.toList.drop 23 = dktX1_between_1 := dk_seg dksX1_between_0 23 rfl rfl
theorem dX1_between_0 : decode cX1_between 0 = .ok (.aload_n 0, 1) := dk_42 (dk_at dksX1_between_0 0 rfl rfl)
theorem dX1_between_1 : decode cX1_between 1 = .ok (.iload_n 1, 1) := dk_27 (dk_at dksX1_between_0 1 rfl rfl)
theorem dX1_between_2 : decode cX1_between 2 = .ok (.iload_n 2, 1) := dk_28 (dk_at dksX1_between_0 2 rfl rfl)
theorem dX1_between_3 : decode cX1_between 3 = .ok (.invokevirtual 167, 3) := dk_182 0 167 (dk_at dksX1_between_0 3 rfl rfl)
theorem dX1_between_6 : decode cX1_between 6 = .ok (.iload_n 3, 1) := dk_29 (dk_at dksX1_between_0 6 rfl rfl)
theorem dX1_between_7 : decode cX1_between 7 = .ok (.ifCond .eq 15, 3) := dk_153 0 15 (dk_at dksX1_between_0 7 rfl rfl)
theorem dX1_between_10 : decode cX1_between 10 = .ok (.aload_n 0, 1) := dk_42 (dk_at dksX1_between_0 10 rfl rfl)
theorem dX1_between_11 : decode cX1_between 11 = .ok (.invokevirtual 84, 3) := dk_182 0 84 (dk_at dksX1_between_0 11 rfl rfl)
theorem dX1_between_14 : decode cX1_between 14 = .ok (.iload_n 1, 1) := dk_27 (dk_at dksX1_between_0 14 rfl rfl)
theorem dX1_between_15 : decode cX1_between 15 = .ok (.iload_n 2, 1) := dk_28 (dk_at dksX1_between_0 15 rfl rfl)
theorem dX1_between_16 : decode cX1_between 16 = .ok (.invokevirtual 190, 3) := dk_182 0 190 (dk_at dksX1_between_0 16 rfl rfl)
theorem dX1_between_19 : decode cX1_between 19 = .ok (.goto 12, 3) := dk_167 0 12 (dk_at dksX1_between_0 19 rfl rfl)
theorem dX1_between_22 : decode cX1_between 22 = .ok (.aload_n 0, 1) := dk_42 (dk_at dksX1_between_0 22 rfl rfl)
theorem dX1_between_23 : decode cX1_between 23 = .ok (.invokevirtual 84, 3) := dk_182 0 84 (dk_at dksX1_between_1 0 rfl rfl)
theorem dX1_between_26 : decode cX1_between 26 = .ok (.iload_n 1, 1) := dk_27 (dk_at dksX1_between_1 3 rfl rfl)
theorem dX1_between_27 : decode cX1_between 27 = .ok (.iload_n 2, 1) := dk_28 (dk_at dksX1_between_1 4 rfl rfl)
theorem dX1_between_28 : decode cX1_between 28 = .ok (.invokevirtual 170, 3) := dk_182 0 170 (dk_at dksX1_between_1 5 rfl rfl)
theorem dX1_between_31 : decode cX1_between 31 = .ok (.ireturn, 1) := dk_172 (dk_at dksX1_between_1 8 rfl rfl)
abbrev cX1_count : ByteArray := prog_1_method_23_code
def yX1_count : MethodName := ⟨RX1, "count", "(I)I"⟩
def dkwX1_count_0 : List UInt8 := [27, 3, 16, 6, 184, 0, 88, 184, 0, 135, 42, 180, 0, 41, 27, 182, 0, 193, 172]
abbrev dktX1_count_0 : List UInt8 := dkwX1_count_0 ++ []
theorem dksX1_count_0 : cX1_count.data.toList.drop 0 = dktX1_count_0 := by decide +kernel
theorem dX1_count_0 : decode cX1_count 0 = .ok (.iload_n 1, 1) := dk_27 (dk_at dksX1_count_0 0 rfl rfl)
theorem dX1_count_1 : decode cX1_count 1 = .ok (.iconst 0, 1) := dk_3 (dk_at dksX1_count_0 1 rfl rfl)
theorem dX1_count_2 : decode cX1_count 2 = .ok (.bipush 6, 2) := dk_16 6 (dk_at dksX1_count_0 2 rfl rfl)
theorem dX1_count_4 : decode cX1_count 4 = .ok (.invokestatic 88, 3) := dk_184 0 88 (dk_at dksX1_count_0 4 rfl rfl)
theorem dX1_count_7 : decode cX1_count 7 = .ok (.invokestatic 135, 3) := dk_184 0 135 (dk_at dksX1_count_0 7 rfl rfl)
theorem dX1_count_10 : decode cX1_count 10 = .ok (.aload_n 0, 1) := dk_42 (dk_at dksX1_count_0 10 rfl rfl)
theorem dX1_count_11 : decode cX1_count 11 = .ok (.getfield 41, 3) := dk_180 0 41 (dk_at dksX1_count_0 11 rfl rfl)
theorem dX1_count_14 : decode cX1_count 14 = .ok (.iload_n 1, 1) := dk_27 (dk_at dksX1_count_0 14 rfl rfl)
theorem dX1_count_15 : decode cX1_count 15 = .ok (.invokevirtual 193, 3) := dk_182 0 193 (dk_at dksX1_count_0 15 rfl rfl)
theorem dX1_count_18 : decode cX1_count 18 = .ok (.ireturn, 1) := dk_172 (dk_at dksX1_count_0 18 rfl rfl)
abbrev cX1_pour : ByteArray := prog_1_method_24_code
def yX1_pour : MethodName := ⟨RX1, "pour", "(II)I"⟩
def dkwX1_pour_3 : List UInt8 := [181, 0, 213, 42, 180, 0, 41, 180, 0, 207, 33, 101, 136, 172]
abbrev dktX1_pour_3 : List UInt8 := dkwX1_pour_3 ++ []
def dkwX1_pour_2 : List UInt8 := [180, 0, 207, 66, 42, 180, 0, 41, 27, 28, 182, 0, 210, 42, 180, 0, 41, 89, 180, 0, 213, 28, 133, 97]
abbrev dktX1_pour_2 : List UInt8 := dkwX1_pour_2 ++ dktX1_pour_3
def dkwX1_pour_1 : List UInt8 := [97, 20, 0, 202, 148, 157, 0, 7, 4, 167, 0, 4, 3, 184, 0, 204, 42, 182, 0, 138, 42, 180, 0, 41]
abbrev dktX1_pour_1 : List UInt8 := dkwX1_pour_1 ++ dktX1_pour_2
def dkwX1_pour_0 : List UInt8 := [42, 27, 182, 0, 96, 28, 3, 18, 197, 184, 0, 88, 184, 0, 135, 42, 180, 0, 41, 182, 0, 198, 28, 133]
abbrev dktX1_pour_0 : List UInt8 := dkwX1_pour_0 ++ dktX1_pour_1
theorem dksX1_pour_0 : cX1_pour.data.toList.drop 0 = dktX1_pour_0 := by decide +kernel
theorem dksX1_pour_1 : cX1_pour.data.toList.drop 24 = dktX1_pour_1 := dk_seg dksX1_pour_0 24 rfl rfl
theorem dksX1_pour_2 : cX1_pour.data.toList.drop 48 = dktX1_pour_2 := dk_seg dksX1_pour_1 24 rfl rfl
theorem dksX1_pour_3 : cX1_pour.data.toList.drop 72 = dktX1_pour_3 := dk_seg dksX1_pour_2 24 rfl rfl
theorem dX1_pour_0 : decode cX1_pour 0 = .ok (.aload_n 0, 1) := dk_42 (dk_at dksX1_pour_0 0 rfl rfl)
theorem dX1_pour_1 : decode cX1_pour 1 = .ok (.iload_n 1, 1) := dk_27 (dk_at dksX1_pour_0 1 rfl rfl)
theorem dX1_pour_2 : decode cX1_pour 2 = .ok (.invokevirtual 96, 3) := dk_182 0 96 (dk_at dksX1_pour_0 2 rfl rfl)
theorem dX1_pour_5 : decode cX1_pour 5 = .ok (.iload_n 2, 1) := dk_28 (dk_at dksX1_pour_0 5 rfl rfl)
theorem dX1_pour_6 : decode cX1_pour 6 = .ok (.iconst 0, 1) := dk_3 (dk_at dksX1_pour_0 6 rfl rfl)
theorem dX1_pour_7 : decode cX1_pour 7 = .ok (.ldc 197, 2) := dk_18 197 (dk_at dksX1_pour_0 7 rfl rfl)
theorem dX1_pour_9 : decode cX1_pour 9 = .ok (.invokestatic 88, 3) := dk_184 0 88 (dk_at dksX1_pour_0 9 rfl rfl)
theorem dX1_pour_12 : decode cX1_pour 12 = .ok (.invokestatic 135, 3) := dk_184 0 135 (dk_at dksX1_pour_0 12 rfl rfl)
theorem dX1_pour_15 : decode cX1_pour 15 = .ok (.aload_n 0, 1) := dk_42 (dk_at dksX1_pour_0 15 rfl rfl)
theorem dX1_pour_16 : decode cX1_pour 16 = .ok (.getfield 41, 3) := dk_180 0 41 (dk_at dksX1_pour_0 16 rfl rfl)
theorem dX1_pour_19 : decode cX1_pour 19 = .ok (.invokevirtual 198, 3) := dk_182 0 198 (dk_at dksX1_pour_0 19 rfl rfl)
theorem dX1_pour_22 : decode cX1_pour 22 = .ok (.iload_n 2, 1) := dk_28 (dk_at dksX1_pour_0 22 rfl rfl)
theorem dX1_pour_23 : decode cX1_pour 23 = .ok (.i2l, 1) := dk_133 (dk_at dksX1_pour_0 23 rfl rfl)
theorem dX1_pour_24 : decode cX1_pour 24 = .ok (.ladd, 1) := dk_97 (dk_at dksX1_pour_1 0 rfl rfl)
theorem dX1_pour_25 : decode cX1_pour 25 = .ok (.ldc2_w 202, 3) := dk_20 0 202 (dk_at dksX1_pour_1 1 rfl rfl)
theorem dX1_pour_28 : decode cX1_pour 28 = .ok (.lcmp, 1) := dk_148 (dk_at dksX1_pour_1 4 rfl rfl)
theorem dX1_pour_29 : decode cX1_pour 29 = .ok (.ifCond .gt 7, 3) := dk_157 0 7 (dk_at dksX1_pour_1 5 rfl rfl)
theorem dX1_pour_32 : decode cX1_pour 32 = .ok (.iconst 1, 1) := dk_4 (dk_at dksX1_pour_1 8 rfl rfl)
theorem dX1_pour_33 : decode cX1_pour 33 = .ok (.goto 4, 3) := dk_167 0 4 (dk_at dksX1_pour_1 9 rfl rfl)
theorem dX1_pour_36 : decode cX1_pour 36 = .ok (.iconst 0, 1) := dk_3 (dk_at dksX1_pour_1 12 rfl rfl)
theorem dX1_pour_37 : decode cX1_pour 37 = .ok (.invokestatic 204, 3) := dk_184 0 204 (dk_at dksX1_pour_1 13 rfl rfl)
theorem dX1_pour_40 : decode cX1_pour 40 = .ok (.aload_n 0, 1) := dk_42 (dk_at dksX1_pour_1 16 rfl rfl)
theorem dX1_pour_41 : decode cX1_pour 41 = .ok (.invokevirtual 138, 3) := dk_182 0 138 (dk_at dksX1_pour_1 17 rfl rfl)
theorem dX1_pour_44 : decode cX1_pour 44 = .ok (.aload_n 0, 1) := dk_42 (dk_at dksX1_pour_1 20 rfl rfl)
theorem dX1_pour_45 : decode cX1_pour 45 = .ok (.getfield 41, 3) := dk_180 0 41 (dk_at dksX1_pour_1 21 rfl rfl)
theorem dX1_pour_48 : decode cX1_pour 48 = .ok (.getfield 207, 3) := dk_180 0 207 (dk_at dksX1_pour_2 0 rfl rfl)
theorem dX1_pour_51 : decode cX1_pour 51 = .ok (.lstore_n 3, 1) := dk_66 (dk_at dksX1_pour_2 3 rfl rfl)
theorem dX1_pour_52 : decode cX1_pour 52 = .ok (.aload_n 0, 1) := dk_42 (dk_at dksX1_pour_2 4 rfl rfl)
theorem dX1_pour_53 : decode cX1_pour 53 = .ok (.getfield 41, 3) := dk_180 0 41 (dk_at dksX1_pour_2 5 rfl rfl)
theorem dX1_pour_56 : decode cX1_pour 56 = .ok (.iload_n 1, 1) := dk_27 (dk_at dksX1_pour_2 8 rfl rfl)
theorem dX1_pour_57 : decode cX1_pour 57 = .ok (.iload_n 2, 1) := dk_28 (dk_at dksX1_pour_2 9 rfl rfl)
theorem dX1_pour_58 : decode cX1_pour 58 = .ok (.invokevirtual 210, 3) := dk_182 0 210 (dk_at dksX1_pour_2 10 rfl rfl)
theorem dX1_pour_61 : decode cX1_pour 61 = .ok (.aload_n 0, 1) := dk_42 (dk_at dksX1_pour_2 13 rfl rfl)
theorem dX1_pour_62 : decode cX1_pour 62 = .ok (.getfield 41, 3) := dk_180 0 41 (dk_at dksX1_pour_2 14 rfl rfl)
theorem dX1_pour_65 : decode cX1_pour 65 = .ok (.dup, 1) := dk_89 (dk_at dksX1_pour_2 17 rfl rfl)
theorem dX1_pour_66 : decode cX1_pour 66 = .ok (.getfield 213, 3) := dk_180 0 213 (dk_at dksX1_pour_2 18 rfl rfl)
theorem dX1_pour_69 : decode cX1_pour 69 = .ok (.iload_n 2, 1) := dk_28 (dk_at dksX1_pour_2 21 rfl rfl)
theorem dX1_pour_70 : decode cX1_pour 70 = .ok (.i2l, 1) := dk_133 (dk_at dksX1_pour_2 22 rfl rfl)
theorem dX1_pour_71 : decode cX1_pour 71 = .ok (.ladd, 1) := dk_97 (dk_at dksX1_pour_2 23 rfl rfl)
theorem dX1_pour_72 : decode cX1_pour 72 = .ok (.putfield 213, 3) := dk_181 0 213 (dk_at dksX1_pour_3 0 rfl rfl)
theorem dX1_pour_75 : decode cX1_pour 75 = .ok (.aload_n 0, 1) := dk_42 (dk_at dksX1_pour_3 3 rfl rfl)
theorem dX1_pour_76 : decode cX1_pour 76 = .ok (.getfield 41, 3) := dk_180 0 41 (dk_at dksX1_pour_3 4 rfl rfl)
theorem dX1_pour_79 : decode cX1_pour 79 = .ok (.getfield 207, 3) := dk_180 0 207 (dk_at dksX1_pour_3 7 rfl rfl)
theorem dX1_pour_82 : decode cX1_pour 82 = .ok (.lload_n 3, 1) := dk_33 (dk_at dksX1_pour_3 10 rfl rfl)
theorem dX1_pour_83 : decode cX1_pour 83 = .ok (.lsub, 1) := dk_101 (dk_at dksX1_pour_3 11 rfl rfl)
theorem dX1_pour_84 : decode cX1_pour 84 = .ok (.l2i, 1) := dk_136 (dk_at dksX1_pour_3 12 rfl rfl)
theorem dX1_pour_85 : decode cX1_pour 85 = .ok (.ireturn, 1) := dk_172 (dk_at dksX1_pour_3 13 rfl rfl)
abbrev cX1_requireState : ByteArray := prog_1_method_4_code
def yX1_requireState : MethodName := ⟨RX1, "requireState", "(Z)V"⟩
def dkwX1_requireState_0 : List UInt8 := [26, 154, 0, 13, 187, 0, 14, 89, 18, 16, 183, 0, 18, 191, 177]
abbrev dktX1_requireState_0 : List UInt8 := dkwX1_requireState_0 ++ []
theorem dksX1_requireState_0 : cX1_requireState.data.toList.drop 0 = dktX1_requireState_0 := by decide +kernel
theorem dX1_requireState_0 : decode cX1_requireState 0 = .ok (.iload_n 0, 1) := dk_26 (dk_at dksX1_requireState_0 0 rfl rfl)
theorem dX1_requireState_1 : decode cX1_requireState 1 = .ok (.ifCond .ne 13, 3) := dk_154 0 13 (dk_at dksX1_requireState_0 1 rfl rfl)
theorem dX1_requireState_4 : decode cX1_requireState 4 = .ok (.new 14, 3) := dk_187 0 14 (dk_at dksX1_requireState_0 4 rfl rfl)
theorem dX1_requireState_7 : decode cX1_requireState 7 = .ok (.dup, 1) := dk_89 (dk_at dksX1_requireState_0 7 rfl rfl)
theorem dX1_requireState_8 : decode cX1_requireState 8 = .ok (.ldc 16, 2) := dk_18 16 (dk_at dksX1_requireState_0 8 rfl rfl)
theorem dX1_requireState_10 : decode cX1_requireState 10 = .ok (.invokespecial 18, 3) := dk_183 0 18 (dk_at dksX1_requireState_0 10 rfl rfl)
theorem dX1_requireState_13 : decode cX1_requireState 13 = .ok (.athrow, 1) := dk_191 (dk_at dksX1_requireState_0 13 rfl rfl)
theorem dX1_requireState_14 : decode cX1_requireState 14 = .ok (.return_, 1) := dk_177 (dk_at dksX1_requireState_0 14 rfl rfl)
abbrev cX1_rain : ByteArray := prog_1_method_25_code
def yX1_rain : MethodName := ⟨RX1, "rain", "(I)I"⟩
def dkwX1_rain_3 : List UInt8 := [89, 180, 0, 213, 28, 133, 97, 181, 0, 213, 42, 180, 0, 41, 180, 0, 207, 33, 101, 136, 172]
abbrev dktX1_rain_3 : List UInt8 := dkwX1_rain_3 ++ []
def dkwX1_rain_2 : List UInt8 := [42, 182, 0, 138, 42, 180, 0, 41, 180, 0, 207, 66, 42, 180, 0, 41, 27, 182, 0, 216, 42, 180, 0, 41]
abbrev dktX1_rain_2 : List UInt8 := dkwX1_rain_2 ++ dktX1_rain_3
def dkwX1_rain_1 : List UInt8 := [180, 0, 41, 182, 0, 198, 28, 133, 97, 20, 0, 202, 148, 157, 0, 7, 4, 167, 0, 4, 3, 184, 0, 204]
abbrev dktX1_rain_1 : List UInt8 := dkwX1_rain_1 ++ dktX1_rain_2
def dkwX1_rain_0 : List UInt8 := [27, 3, 17, 3, 232, 184, 0, 88, 184, 0, 135, 27, 42, 182, 0, 84, 182, 0, 87, 104, 61, 42]
abbrev dktX1_rain_0 : List UInt8 := dkwX1_rain_0 ++ dktX1_rain_1
theorem dksX1_rain_0 : cX1_rain.data.toList.drop 0 = dktX1_rain_0 := by decide +kernel
theorem dksX1_rain_1 : cX1_rain.data.toList.drop 22 = dktX1_rain_1 := dk_seg dksX1_rain_0 22 rfl rfl
theorem dksX1_rain_2 : cX1_rain.data.toList.drop 46 = dktX1_rain_2 := dk_seg dksX1_rain_1 24 rfl rfl
theorem dksX1_rain_3 : cX1_rain.data.toList.drop 70 = dktX1_rain_3 := dk_seg dksX1_rain_2 24 rfl rfl
theorem dX1_rain_0 : decode cX1_rain 0 = .ok (.iload_n 1, 1) := dk_27 (dk_at dksX1_rain_0 0 rfl rfl)
theorem dX1_rain_1 : decode cX1_rain 1 = .ok (.iconst 0, 1) := dk_3 (dk_at dksX1_rain_0 1 rfl rfl)
theorem dX1_rain_2 : decode cX1_rain 2 = .ok (.sipush 1000, 3) := dk_17 3 232 (dk_at dksX1_rain_0 2 rfl rfl)
theorem dX1_rain_5 : decode cX1_rain 5 = .ok (.invokestatic 88, 3) := dk_184 0 88 (dk_at dksX1_rain_0 5 rfl rfl)
theorem dX1_rain_8 : decode cX1_rain 8 = .ok (.invokestatic 135, 3) := dk_184 0 135 (dk_at dksX1_rain_0 8 rfl rfl)
theorem dX1_rain_11 : decode cX1_rain 11 = .ok (.iload_n 1, 1) := dk_27 (dk_at dksX1_rain_0 11 rfl rfl)
theorem dX1_rain_12 : decode cX1_rain 12 = .ok (.aload_n 0, 1) := dk_42 (dk_at dksX1_rain_0 12 rfl rfl)
theorem dX1_rain_13 : decode cX1_rain 13 = .ok (.invokevirtual 84, 3) := dk_182 0 84 (dk_at dksX1_rain_0 13 rfl rfl)
theorem dX1_rain_16 : decode cX1_rain 16 = .ok (.invokevirtual 87, 3) := dk_182 0 87 (dk_at dksX1_rain_0 16 rfl rfl)
theorem dX1_rain_19 : decode cX1_rain 19 = .ok (.imul, 1) := dk_104 (dk_at dksX1_rain_0 19 rfl rfl)
theorem dX1_rain_20 : decode cX1_rain 20 = .ok (.istore_n 2, 1) := dk_61 (dk_at dksX1_rain_0 20 rfl rfl)
theorem dX1_rain_21 : decode cX1_rain 21 = .ok (.aload_n 0, 1) := dk_42 (dk_at dksX1_rain_0 21 rfl rfl)
theorem dX1_rain_22 : decode cX1_rain 22 = .ok (.getfield 41, 3) := dk_180 0 41 (dk_at dksX1_rain_1 0 rfl rfl)
theorem dX1_rain_25 : decode cX1_rain 25 = .ok (.invokevirtual 198, 3) := dk_182 0 198 (dk_at dksX1_rain_1 3 rfl rfl)
theorem dX1_rain_28 : decode cX1_rain 28 = .ok (.iload_n 2, 1) := dk_28 (dk_at dksX1_rain_1 6 rfl rfl)
theorem dX1_rain_29 : decode cX1_rain 29 = .ok (.i2l, 1) := dk_133 (dk_at dksX1_rain_1 7 rfl rfl)
theorem dX1_rain_30 : decode cX1_rain 30 = .ok (.ladd, 1) := dk_97 (dk_at dksX1_rain_1 8 rfl rfl)
theorem dX1_rain_31 : decode cX1_rain 31 = .ok (.ldc2_w 202, 3) := dk_20 0 202 (dk_at dksX1_rain_1 9 rfl rfl)
theorem dX1_rain_34 : decode cX1_rain 34 = .ok (.lcmp, 1) := dk_148 (dk_at dksX1_rain_1 12 rfl rfl)
theorem dX1_rain_35 : decode cX1_rain 35 = .ok (.ifCond .gt 7, 3) := dk_157 0 7 (dk_at dksX1_rain_1 13 rfl rfl)
theorem dX1_rain_38 : decode cX1_rain 38 = .ok (.iconst 1, 1) := dk_4 (dk_at dksX1_rain_1 16 rfl rfl)
theorem dX1_rain_39 : decode cX1_rain 39 = .ok (.goto 4, 3) := dk_167 0 4 (dk_at dksX1_rain_1 17 rfl rfl)
theorem dX1_rain_42 : decode cX1_rain 42 = .ok (.iconst 0, 1) := dk_3 (dk_at dksX1_rain_1 20 rfl rfl)
theorem dX1_rain_43 : decode cX1_rain 43 = .ok (.invokestatic 204, 3) := dk_184 0 204 (dk_at dksX1_rain_1 21 rfl rfl)
theorem dX1_rain_46 : decode cX1_rain 46 = .ok (.aload_n 0, 1) := dk_42 (dk_at dksX1_rain_2 0 rfl rfl)
theorem dX1_rain_47 : decode cX1_rain 47 = .ok (.invokevirtual 138, 3) := dk_182 0 138 (dk_at dksX1_rain_2 1 rfl rfl)
theorem dX1_rain_50 : decode cX1_rain 50 = .ok (.aload_n 0, 1) := dk_42 (dk_at dksX1_rain_2 4 rfl rfl)
theorem dX1_rain_51 : decode cX1_rain 51 = .ok (.getfield 41, 3) := dk_180 0 41 (dk_at dksX1_rain_2 5 rfl rfl)
theorem dX1_rain_54 : decode cX1_rain 54 = .ok (.getfield 207, 3) := dk_180 0 207 (dk_at dksX1_rain_2 8 rfl rfl)
theorem dX1_rain_57 : decode cX1_rain 57 = .ok (.lstore_n 3, 1) := dk_66 (dk_at dksX1_rain_2 11 rfl rfl)
theorem dX1_rain_58 : decode cX1_rain 58 = .ok (.aload_n 0, 1) := dk_42 (dk_at dksX1_rain_2 12 rfl rfl)
theorem dX1_rain_59 : decode cX1_rain 59 = .ok (.getfield 41, 3) := dk_180 0 41 (dk_at dksX1_rain_2 13 rfl rfl)
theorem dX1_rain_62 : decode cX1_rain 62 = .ok (.iload_n 1, 1) := dk_27 (dk_at dksX1_rain_2 16 rfl rfl)
theorem dX1_rain_63 : decode cX1_rain 63 = .ok (.invokevirtual 216, 3) := dk_182 0 216 (dk_at dksX1_rain_2 17 rfl rfl)
theorem dX1_rain_66 : decode cX1_rain 66 = .ok (.aload_n 0, 1) := dk_42 (dk_at dksX1_rain_2 20 rfl rfl)
theorem dX1_rain_67 : decode cX1_rain 67 = .ok (.getfield 41, 3) := dk_180 0 41 (dk_at dksX1_rain_2 21 rfl rfl)
theorem dX1_rain_70 : decode cX1_rain 70 = .ok (.dup, 1) := dk_89 (dk_at dksX1_rain_3 0 rfl rfl)
theorem dX1_rain_71 : decode cX1_rain 71 = .ok (.getfield 213, 3) := dk_180 0 213 (dk_at dksX1_rain_3 1 rfl rfl)
theorem dX1_rain_74 : decode cX1_rain 74 = .ok (.iload_n 2, 1) := dk_28 (dk_at dksX1_rain_3 4 rfl rfl)
theorem dX1_rain_75 : decode cX1_rain 75 = .ok (.i2l, 1) := dk_133 (dk_at dksX1_rain_3 5 rfl rfl)
theorem dX1_rain_76 : decode cX1_rain 76 = .ok (.ladd, 1) := dk_97 (dk_at dksX1_rain_3 6 rfl rfl)
theorem dX1_rain_77 : decode cX1_rain 77 = .ok (.putfield 213, 3) := dk_181 0 213 (dk_at dksX1_rain_3 7 rfl rfl)
theorem dX1_rain_80 : decode cX1_rain 80 = .ok (.aload_n 0, 1) := dk_42 (dk_at dksX1_rain_3 10 rfl rfl)
theorem dX1_rain_81 : decode cX1_rain 81 = .ok (.getfield 41, 3) := dk_180 0 41 (dk_at dksX1_rain_3 11 rfl rfl)
theorem dX1_rain_84 : decode cX1_rain 84 = .ok (.getfield 207, 3) := dk_180 0 207 (dk_at dksX1_rain_3 14 rfl rfl)
theorem dX1_rain_87 : decode cX1_rain 87 = .ok (.lload_n 3, 1) := dk_33 (dk_at dksX1_rain_3 17 rfl rfl)
theorem dX1_rain_88 : decode cX1_rain 88 = .ok (.lsub, 1) := dk_101 (dk_at dksX1_rain_3 18 rfl rfl)
theorem dX1_rain_89 : decode cX1_rain 89 = .ok (.l2i, 1) := dk_136 (dk_at dksX1_rain_3 19 rfl rfl)
theorem dX1_rain_90 : decode cX1_rain 90 = .ok (.ireturn, 1) := dk_172 (dk_at dksX1_rain_3 20 rfl rfl)
abbrev cX1_evaporate : ByteArray := prog_1_method_26_code
def yX1_evaporate : MethodName := ⟨RX1, "evaporate", "(I)I"⟩
def dkwX1_evaporate_0 : List UInt8 := [27, 3, 16, 100, 184, 0, 88, 184, 0, 135, 42, 182, 0, 138, 42, 180, 0, 41, 27, 182, 0, 219, 136, 172]
abbrev dktX1_evaporate_0 : List UInt8 := dkwX1_evaporate_0 ++ []
theorem dksX1_evaporate_0 : cX1_evaporate.data.toList.drop 0 = dktX1_evaporate_0 := by decide +kernel
theorem dX1_evaporate_0 : decode cX1_evaporate 0 = .ok (.iload_n 1, 1) := dk_27 (dk_at dksX1_evaporate_0 0 rfl rfl)
theorem dX1_evaporate_1 : decode cX1_evaporate 1 = .ok (.iconst 0, 1) := dk_3 (dk_at dksX1_evaporate_0 1 rfl rfl)
theorem dX1_evaporate_2 : decode cX1_evaporate 2 = .ok (.bipush 100, 2) := dk_16 100 (dk_at dksX1_evaporate_0 2 rfl rfl)
theorem dX1_evaporate_4 : decode cX1_evaporate 4 = .ok (.invokestatic 88, 3) := dk_184 0 88 (dk_at dksX1_evaporate_0 4 rfl rfl)
theorem dX1_evaporate_7 : decode cX1_evaporate 7 = .ok (.invokestatic 135, 3) := dk_184 0 135 (dk_at dksX1_evaporate_0 7 rfl rfl)
theorem dX1_evaporate_10 : decode cX1_evaporate 10 = .ok (.aload_n 0, 1) := dk_42 (dk_at dksX1_evaporate_0 10 rfl rfl)
theorem dX1_evaporate_11 : decode cX1_evaporate 11 = .ok (.invokevirtual 138, 3) := dk_182 0 138 (dk_at dksX1_evaporate_0 11 rfl rfl)
theorem dX1_evaporate_14 : decode cX1_evaporate 14 = .ok (.aload_n 0, 1) := dk_42 (dk_at dksX1_evaporate_0 14 rfl rfl)
theorem dX1_evaporate_15 : decode cX1_evaporate 15 = .ok (.getfield 41, 3) := dk_180 0 41 (dk_at dksX1_evaporate_0 15 rfl rfl)
theorem dX1_evaporate_18 : decode cX1_evaporate 18 = .ok (.iload_n 1, 1) := dk_27 (dk_at dksX1_evaporate_0 18 rfl rfl)
theorem dX1_evaporate_19 : decode cX1_evaporate 19 = .ok (.invokevirtual 219, 3) := dk_182 0 219 (dk_at dksX1_evaporate_0 19 rfl rfl)
theorem dX1_evaporate_22 : decode cX1_evaporate 22 = .ok (.l2i, 1) := dk_136 (dk_at dksX1_evaporate_0 22 rfl rfl)
theorem dX1_evaporate_23 : decode cX1_evaporate 23 = .ok (.ireturn, 1) := dk_172 (dk_at dksX1_evaporate_0 23 rfl rfl)
abbrev cX1_take : ByteArray := prog_1_method_27_code
def yX1_take : MethodName := ⟨RX1, "take", "(II)I"⟩
def dkwX1_take_2 : List UInt8 := [180, 0, 41, 180, 0, 104, 182, 0, 108, 172]
abbrev dktX1_take_2 : List UInt8 := dkwX1_take_2 ++ []
def dkwX1_take_1 : List UInt8 := [180, 0, 41, 45, 28, 182, 0, 230, 42, 180, 0, 41, 89, 180, 0, 234, 28, 133, 97, 181, 0, 234, 42]
abbrev dktX1_take_1 : List UInt8 := dkwX1_take_1 ++ dktX1_take_2
def dkwX1_take_0 : List UInt8 := [42, 27, 182, 0, 223, 78, 28, 3, 45, 180, 0, 227, 184, 0, 88, 184, 0, 135, 42, 182, 0, 138, 42]
abbrev dktX1_take_0 : List UInt8 := dkwX1_take_0 ++ dktX1_take_1
theorem dksX1_take_0 : cX1_take.data.toList.drop 0 = dktX1_take_0 := by decide +kernel
theorem dksX1_take_1 : cX1_take.data.toList.drop 23 = dktX1_take_1 := dk_seg dksX1_take_0 23 rfl rfl
theorem dksX1_take_2 : cX1_take.data.toList.drop 46 = dktX1_take_2 := dk_seg dksX1_take_1 23 rfl rfl
theorem dX1_take_0 : decode cX1_take 0 = .ok (.aload_n 0, 1) := dk_42 (dk_at dksX1_take_0 0 rfl rfl)
theorem dX1_take_1 : decode cX1_take 1 = .ok (.iload_n 1, 1) := dk_27 (dk_at dksX1_take_0 1 rfl rfl)
theorem dX1_take_2 : decode cX1_take 2 = .ok (.invokevirtual 223, 3) := dk_182 0 223 (dk_at dksX1_take_0 2 rfl rfl)
theorem dX1_take_5 : decode cX1_take 5 = .ok (.astore_n 3, 1) := dk_78 (dk_at dksX1_take_0 5 rfl rfl)
theorem dX1_take_6 : decode cX1_take 6 = .ok (.iload_n 2, 1) := dk_28 (dk_at dksX1_take_0 6 rfl rfl)
theorem dX1_take_7 : decode cX1_take 7 = .ok (.iconst 0, 1) := dk_3 (dk_at dksX1_take_0 7 rfl rfl)
theorem dX1_take_8 : decode cX1_take 8 = .ok (.aload_n 3, 1) := dk_45 (dk_at dksX1_take_0 8 rfl rfl)
theorem dX1_take_9 : decode cX1_take 9 = .ok (.getfield 227, 3) := dk_180 0 227 (dk_at dksX1_take_0 9 rfl rfl)
theorem dX1_take_12 : decode cX1_take 12 = .ok (.invokestatic 88, 3) := dk_184 0 88 (dk_at dksX1_take_0 12 rfl rfl)
theorem dX1_take_15 : decode cX1_take 15 = .ok (.invokestatic 135, 3) := dk_184 0 135 (dk_at dksX1_take_0 15 rfl rfl)
theorem dX1_take_18 : decode cX1_take 18 = .ok (.aload_n 0, 1) := dk_42 (dk_at dksX1_take_0 18 rfl rfl)
theorem dX1_take_19 : decode cX1_take 19 = .ok (.invokevirtual 138, 3) := dk_182 0 138 (dk_at dksX1_take_0 19 rfl rfl)
theorem dX1_take_22 : decode cX1_take 22 = .ok (.aload_n 0, 1) := dk_42 (dk_at dksX1_take_0 22 rfl rfl)
theorem dX1_take_23 : decode cX1_take 23 = .ok (.getfield 41, 3) := dk_180 0 41 (dk_at dksX1_take_1 0 rfl rfl)
theorem dX1_take_26 : decode cX1_take 26 = .ok (.aload_n 3, 1) := dk_45 (dk_at dksX1_take_1 3 rfl rfl)
theorem dX1_take_27 : decode cX1_take 27 = .ok (.iload_n 2, 1) := dk_28 (dk_at dksX1_take_1 4 rfl rfl)
theorem dX1_take_28 : decode cX1_take 28 = .ok (.invokevirtual 230, 3) := dk_182 0 230 (dk_at dksX1_take_1 5 rfl rfl)
theorem dX1_take_31 : decode cX1_take 31 = .ok (.aload_n 0, 1) := dk_42 (dk_at dksX1_take_1 8 rfl rfl)
theorem dX1_take_32 : decode cX1_take 32 = .ok (.getfield 41, 3) := dk_180 0 41 (dk_at dksX1_take_1 9 rfl rfl)
theorem dX1_take_35 : decode cX1_take 35 = .ok (.dup, 1) := dk_89 (dk_at dksX1_take_1 12 rfl rfl)
theorem dX1_take_36 : decode cX1_take 36 = .ok (.getfield 234, 3) := dk_180 0 234 (dk_at dksX1_take_1 13 rfl rfl)
theorem dX1_take_39 : decode cX1_take 39 = .ok (.iload_n 2, 1) := dk_28 (dk_at dksX1_take_1 16 rfl rfl)
theorem dX1_take_40 : decode cX1_take 40 = .ok (.i2l, 1) := dk_133 (dk_at dksX1_take_1 17 rfl rfl)
theorem dX1_take_41 : decode cX1_take 41 = .ok (.ladd, 1) := dk_97 (dk_at dksX1_take_1 18 rfl rfl)
theorem dX1_take_42 : decode cX1_take 42 = .ok (.putfield 234, 3) := dk_181 0 234 (dk_at dksX1_take_1 19 rfl rfl)
theorem dX1_take_45 : decode cX1_take 45 = .ok (.aload_n 0, 1) := dk_42 (dk_at dksX1_take_1 22 rfl rfl)
theorem dX1_take_46 : decode cX1_take 46 = .ok (.getfield 41, 3) := dk_180 0 41 (dk_at dksX1_take_2 0 rfl rfl)
theorem dX1_take_49 : decode cX1_take 49 = .ok (.getfield 104, 3) := dk_180 0 104 (dk_at dksX1_take_2 3 rfl rfl)
theorem dX1_take_52 : decode cX1_take 52 = .ok (.invokevirtual 108, 3) := dk_182 0 108 (dk_at dksX1_take_2 6 rfl rfl)
theorem dX1_take_55 : decode cX1_take 55 = .ok (.ireturn, 1) := dk_172 (dk_at dksX1_take_2 9 rfl rfl)
abbrev cX1_at : ByteArray := prog_1_method_14_code
def yX1_at : MethodName := ⟨RX1, "at", "(I)LLakeLevels$Lake;"⟩
def dkwX1_at_1 : List UInt8 := [180, 0, 104, 27, 182, 0, 111, 192, 0, 115, 176]
abbrev dktX1_at_1 : List UInt8 := dkwX1_at_1 ++ []
def dkwX1_at_0 : List UInt8 := [27, 3, 42, 180, 0, 41, 180, 0, 104, 182, 0, 108, 4, 100, 184, 0, 88, 184, 0, 92, 42, 180, 0, 41]
abbrev dktX1_at_0 : List UInt8 := dkwX1_at_0 ++ dktX1_at_1
theorem dksX1_at_0 : cX1_at.data.toList.drop 0 = dktX1_at_0 := by decide +kernel
theorem dksX1_at_1 : cX1_at.data.toList.drop 24 = dktX1_at_1 := dk_seg dksX1_at_0 24 rfl rfl
theorem dX1_at_0 : decode cX1_at 0 = .ok (.iload_n 1, 1) := dk_27 (dk_at dksX1_at_0 0 rfl rfl)
theorem dX1_at_1 : decode cX1_at 1 = .ok (.iconst 0, 1) := dk_3 (dk_at dksX1_at_0 1 rfl rfl)
theorem dX1_at_2 : decode cX1_at 2 = .ok (.aload_n 0, 1) := dk_42 (dk_at dksX1_at_0 2 rfl rfl)
theorem dX1_at_3 : decode cX1_at 3 = .ok (.getfield 41, 3) := dk_180 0 41 (dk_at dksX1_at_0 3 rfl rfl)
theorem dX1_at_6 : decode cX1_at 6 = .ok (.getfield 104, 3) := dk_180 0 104 (dk_at dksX1_at_0 6 rfl rfl)
theorem dX1_at_9 : decode cX1_at 9 = .ok (.invokevirtual 108, 3) := dk_182 0 108 (dk_at dksX1_at_0 9 rfl rfl)
theorem dX1_at_12 : decode cX1_at 12 = .ok (.iconst 1, 1) := dk_4 (dk_at dksX1_at_0 12 rfl rfl)
theorem dX1_at_13 : decode cX1_at 13 = .ok (.isub, 1) := dk_100 (dk_at dksX1_at_0 13 rfl rfl)
theorem dX1_at_14 : decode cX1_at 14 = .ok (.invokestatic 88, 3) := dk_184 0 88 (dk_at dksX1_at_0 14 rfl rfl)
theorem dX1_at_17 : decode cX1_at 17 = .ok (.invokestatic 92, 3) := dk_184 0 92 (dk_at dksX1_at_0 17 rfl rfl)
theorem dX1_at_20 : decode cX1_at 20 = .ok (.aload_n 0, 1) := dk_42 (dk_at dksX1_at_0 20 rfl rfl)
theorem dX1_at_21 : decode cX1_at 21 = .ok (.getfield 41, 3) := dk_180 0 41 (dk_at dksX1_at_0 21 rfl rfl)
theorem dX1_at_24 : decode cX1_at 24 = .ok (.getfield 104, 3) := dk_180 0 104 (dk_at dksX1_at_1 0 rfl rfl)
theorem dX1_at_27 : decode cX1_at 27 = .ok (.iload_n 1, 1) := dk_27 (dk_at dksX1_at_1 3 rfl rfl)
theorem dX1_at_28 : decode cX1_at 28 = .ok (.invokevirtual 111, 3) := dk_182 0 111 (dk_at dksX1_at_1 4 rfl rfl)
theorem dX1_at_31 : decode cX1_at 31 = .ok (.checkcast 115, 3) := dk_192 0 115 (dk_at dksX1_at_1 7 rfl rfl)
theorem dX1_at_34 : decode cX1_at 34 = .ok (.areturn, 1) := dk_176 (dk_at dksX1_at_1 10 rfl rfl)
abbrev cX1_balance : ByteArray := prog_1_method_28_code
def yX1_balance : MethodName := ⟨RX1, "balance", "(I)J"⟩
def dkwX1_balance_0 : List UInt8 := [27, 3, 6, 184, 0, 88, 184, 0, 135, 42, 180, 0, 41, 27, 182, 0, 237, 173]
abbrev dktX1_balance_0 : List UInt8 := dkwX1_balance_0 ++ []
theorem dksX1_balance_0 : cX1_balance.data.toList.drop 0 = dktX1_balance_0 := by decide +kernel
theorem dX1_balance_0 : decode cX1_balance 0 = .ok (.iload_n 1, 1) := dk_27 (dk_at dksX1_balance_0 0 rfl rfl)
theorem dX1_balance_1 : decode cX1_balance 1 = .ok (.iconst 0, 1) := dk_3 (dk_at dksX1_balance_0 1 rfl rfl)
theorem dX1_balance_2 : decode cX1_balance 2 = .ok (.iconst 3, 1) := dk_6 (dk_at dksX1_balance_0 2 rfl rfl)
theorem dX1_balance_3 : decode cX1_balance 3 = .ok (.invokestatic 88, 3) := dk_184 0 88 (dk_at dksX1_balance_0 3 rfl rfl)
theorem dX1_balance_6 : decode cX1_balance 6 = .ok (.invokestatic 135, 3) := dk_184 0 135 (dk_at dksX1_balance_0 6 rfl rfl)
theorem dX1_balance_9 : decode cX1_balance 9 = .ok (.aload_n 0, 1) := dk_42 (dk_at dksX1_balance_0 9 rfl rfl)
theorem dX1_balance_10 : decode cX1_balance 10 = .ok (.getfield 41, 3) := dk_180 0 41 (dk_at dksX1_balance_0 10 rfl rfl)
theorem dX1_balance_13 : decode cX1_balance 13 = .ok (.iload_n 1, 1) := dk_27 (dk_at dksX1_balance_0 13 rfl rfl)
theorem dX1_balance_14 : decode cX1_balance 14 = .ok (.invokevirtual 237, 3) := dk_182 0 237 (dk_at dksX1_balance_0 14 rfl rfl)
theorem dX1_balance_17 : decode cX1_balance 17 = .ok (.lreturn, 1) := dk_173 (dk_at dksX1_balance_0 17 rfl rfl)
abbrev cX1_lake : ByteArray := prog_1_method_29_code
def yX1_lake : MethodName := ⟨RX1, "lake", "(II)I"⟩
def dkwX1_lake_1 : List UInt8 := [182, 0, 240, 172]
abbrev dktX1_lake_1 : List UInt8 := dkwX1_lake_1 ++ []
def dkwX1_lake_0 : List UInt8 := [42, 27, 182, 0, 223, 78, 28, 3, 16, 9, 184, 0, 88, 184, 0, 135, 42, 180, 0, 41, 45, 28]
abbrev dktX1_lake_0 : List UInt8 := dkwX1_lake_0 ++ dktX1_lake_1
theorem dksX1_lake_0 : cX1_lake.data.toList.drop 0 = dktX1_lake_0 := by decide +kernel
theorem dksX1_lake_1 : cX1_lake.data.toList.drop 22 = dktX1_lake_1 := dk_seg dksX1_lake_0 22 rfl rfl
theorem dX1_lake_0 : decode cX1_lake 0 = .ok (.aload_n 0, 1) := dk_42 (dk_at dksX1_lake_0 0 rfl rfl)
theorem dX1_lake_1 : decode cX1_lake 1 = .ok (.iload_n 1, 1) := dk_27 (dk_at dksX1_lake_0 1 rfl rfl)
theorem dX1_lake_2 : decode cX1_lake 2 = .ok (.invokevirtual 223, 3) := dk_182 0 223 (dk_at dksX1_lake_0 2 rfl rfl)
theorem dX1_lake_5 : decode cX1_lake 5 = .ok (.astore_n 3, 1) := dk_78 (dk_at dksX1_lake_0 5 rfl rfl)
theorem dX1_lake_6 : decode cX1_lake 6 = .ok (.iload_n 2, 1) := dk_28 (dk_at dksX1_lake_0 6 rfl rfl)
theorem dX1_lake_7 : decode cX1_lake 7 = .ok (.iconst 0, 1) := dk_3 (dk_at dksX1_lake_0 7 rfl rfl)
theorem dX1_lake_8 : decode cX1_lake 8 = .ok (.bipush 9, 2) := dk_16 9 (dk_at dksX1_lake_0 8 rfl rfl)
theorem dX1_lake_10 : decode cX1_lake 10 = .ok (.invokestatic 88, 3) := dk_184 0 88 (dk_at dksX1_lake_0 10 rfl rfl)
theorem dX1_lake_13 : decode cX1_lake 13 = .ok (.invokestatic 135, 3) := dk_184 0 135 (dk_at dksX1_lake_0 13 rfl rfl)
theorem dX1_lake_16 : decode cX1_lake 16 = .ok (.aload_n 0, 1) := dk_42 (dk_at dksX1_lake_0 16 rfl rfl)
theorem dX1_lake_17 : decode cX1_lake 17 = .ok (.getfield 41, 3) := dk_180 0 41 (dk_at dksX1_lake_0 17 rfl rfl)
theorem dX1_lake_20 : decode cX1_lake 20 = .ok (.aload_n 3, 1) := dk_45 (dk_at dksX1_lake_0 20 rfl rfl)
theorem dX1_lake_21 : decode cX1_lake 21 = .ok (.iload_n 2, 1) := dk_28 (dk_at dksX1_lake_0 21 rfl rfl)
theorem dX1_lake_22 : decode cX1_lake 22 = .ok (.invokevirtual 240, 3) := dk_182 0 240 (dk_at dksX1_lake_1 0 rfl rfl)
theorem dX1_lake_25 : decode cX1_lake 25 = .ok (.ireturn, 1) := dk_172 (dk_at dksX1_lake_1 3 rfl rfl)
abbrev cX1_lakeCells : ByteArray := prog_1_method_30_code
def yX1_lakeCells : MethodName := ⟨RX1, "lakeCells", "(I)J"⟩
def dkwX1_lakeCells_0 : List UInt8 := [42, 27, 182, 0, 223, 180, 0, 244, 173]
abbrev dktX1_lakeCells_0 : List UInt8 := dkwX1_lakeCells_0 ++ []
theorem dksX1_lakeCells_0 : cX1_lakeCells.data.toList.drop 0 = dktX1_lakeCells_0 := by decide +kernel
theorem dX1_lakeCells_0 : decode cX1_lakeCells 0 = .ok (.aload_n 0, 1) := dk_42 (dk_at dksX1_lakeCells_0 0 rfl rfl)
theorem dX1_lakeCells_1 : decode cX1_lakeCells 1 = .ok (.iload_n 1, 1) := dk_27 (dk_at dksX1_lakeCells_0 1 rfl rfl)
theorem dX1_lakeCells_2 : decode cX1_lakeCells 2 = .ok (.invokevirtual 223, 3) := dk_182 0 223 (dk_at dksX1_lakeCells_0 2 rfl rfl)
theorem dX1_lakeCells_5 : decode cX1_lakeCells 5 = .ok (.getfield 244, 3) := dk_180 0 244 (dk_at dksX1_lakeCells_0 5 rfl rfl)
theorem dX1_lakeCells_8 : decode cX1_lakeCells 8 = .ok (.lreturn, 1) := dk_173 (dk_at dksX1_lakeCells_0 8 rfl rfl)
abbrev cX1_level : ByteArray := prog_1_method_31_code
def yX1_level : MethodName := ⟨RX1, "level", "(II)I"⟩
def dkwX1_level_1 : List UInt8 := [172]
abbrev dktX1_level_1 : List UInt8 := dkwX1_level_1 ++ []
def dkwX1_level_0 : List UInt8 := [42, 27, 182, 0, 223, 78, 28, 3, 4, 184, 0, 88, 184, 0, 135, 45, 42, 182, 0, 84, 28, 182, 0, 247]
abbrev dktX1_level_0 : List UInt8 := dkwX1_level_0 ++ dktX1_level_1
theorem dksX1_level_0 : cX1_level.data.toList.drop 0 = dktX1_level_0 := by decide +kernel
theorem dksX1_level_1 : cX1_level.data.toList.drop 24 = dktX1_level_1 := dk_seg dksX1_level_0 24 rfl rfl
theorem dX1_level_0 : decode cX1_level 0 = .ok (.aload_n 0, 1) := dk_42 (dk_at dksX1_level_0 0 rfl rfl)
theorem dX1_level_1 : decode cX1_level 1 = .ok (.iload_n 1, 1) := dk_27 (dk_at dksX1_level_0 1 rfl rfl)
theorem dX1_level_2 : decode cX1_level 2 = .ok (.invokevirtual 223, 3) := dk_182 0 223 (dk_at dksX1_level_0 2 rfl rfl)
theorem dX1_level_5 : decode cX1_level 5 = .ok (.astore_n 3, 1) := dk_78 (dk_at dksX1_level_0 5 rfl rfl)
theorem dX1_level_6 : decode cX1_level 6 = .ok (.iload_n 2, 1) := dk_28 (dk_at dksX1_level_0 6 rfl rfl)
theorem dX1_level_7 : decode cX1_level 7 = .ok (.iconst 0, 1) := dk_3 (dk_at dksX1_level_0 7 rfl rfl)
theorem dX1_level_8 : decode cX1_level 8 = .ok (.iconst 1, 1) := dk_4 (dk_at dksX1_level_0 8 rfl rfl)
theorem dX1_level_9 : decode cX1_level 9 = .ok (.invokestatic 88, 3) := dk_184 0 88 (dk_at dksX1_level_0 9 rfl rfl)
theorem dX1_level_12 : decode cX1_level 12 = .ok (.invokestatic 135, 3) := dk_184 0 135 (dk_at dksX1_level_0 12 rfl rfl)
theorem dX1_level_15 : decode cX1_level 15 = .ok (.aload_n 3, 1) := dk_45 (dk_at dksX1_level_0 15 rfl rfl)
theorem dX1_level_16 : decode cX1_level 16 = .ok (.aload_n 0, 1) := dk_42 (dk_at dksX1_level_0 16 rfl rfl)
theorem dX1_level_17 : decode cX1_level 17 = .ok (.invokevirtual 84, 3) := dk_182 0 84 (dk_at dksX1_level_0 17 rfl rfl)
theorem dX1_level_20 : decode cX1_level 20 = .ok (.iload_n 2, 1) := dk_28 (dk_at dksX1_level_0 20 rfl rfl)
theorem dX1_level_21 : decode cX1_level 21 = .ok (.invokevirtual 247, 3) := dk_182 0 247 (dk_at dksX1_level_0 21 rfl rfl)
theorem dX1_level_24 : decode cX1_level 24 = .ok (.ireturn, 1) := dk_172 (dk_at dksX1_level_1 0 rfl rfl)
abbrev cX1_depth : ByteArray := prog_1_method_33_code
def yX1_depth : MethodName := ⟨RX1, "depth", "(I)D"⟩
def dkwX1_depth_0 : List UInt8 := [42, 27, 182, 0, 96, 42, 27, 182, 1, 2, 77, 44, 3, 46, 135, 44, 4, 46, 135, 111, 175]
abbrev dktX1_depth_0 : List UInt8 := dkwX1_depth_0 ++ []
theorem dksX1_depth_0 : cX1_depth.data.toList.drop 0 = dktX1_depth_0 := by decide +kernel
theorem dX1_depth_0 : decode cX1_depth 0 = .ok (.aload_n 0, 1) := dk_42 (dk_at dksX1_depth_0 0 rfl rfl)
theorem dX1_depth_1 : decode cX1_depth 1 = .ok (.iload_n 1, 1) := dk_27 (dk_at dksX1_depth_0 1 rfl rfl)
theorem dX1_depth_2 : decode cX1_depth 2 = .ok (.invokevirtual 96, 3) := dk_182 0 96 (dk_at dksX1_depth_0 2 rfl rfl)
theorem dX1_depth_5 : decode cX1_depth 5 = .ok (.aload_n 0, 1) := dk_42 (dk_at dksX1_depth_0 5 rfl rfl)
theorem dX1_depth_6 : decode cX1_depth 6 = .ok (.iload_n 1, 1) := dk_27 (dk_at dksX1_depth_0 6 rfl rfl)
theorem dX1_depth_7 : decode cX1_depth 7 = .ok (.invokevirtual 258, 3) := dk_182 1 2 (dk_at dksX1_depth_0 7 rfl rfl)
theorem dX1_depth_10 : decode cX1_depth 10 = .ok (.astore_n 2, 1) := dk_77 (dk_at dksX1_depth_0 10 rfl rfl)
theorem dX1_depth_11 : decode cX1_depth 11 = .ok (.aload_n 2, 1) := dk_44 (dk_at dksX1_depth_0 11 rfl rfl)
theorem dX1_depth_12 : decode cX1_depth 12 = .ok (.iconst 0, 1) := dk_3 (dk_at dksX1_depth_0 12 rfl rfl)
theorem dX1_depth_13 : decode cX1_depth 13 = .ok (.iaload, 1) := dk_46 (dk_at dksX1_depth_0 13 rfl rfl)
theorem dX1_depth_14 : decode cX1_depth 14 = .ok (.i2d, 1) := dk_135 (dk_at dksX1_depth_0 14 rfl rfl)
theorem dX1_depth_15 : decode cX1_depth 15 = .ok (.aload_n 2, 1) := dk_44 (dk_at dksX1_depth_0 15 rfl rfl)
theorem dX1_depth_16 : decode cX1_depth 16 = .ok (.iconst 1, 1) := dk_4 (dk_at dksX1_depth_0 16 rfl rfl)
theorem dX1_depth_17 : decode cX1_depth 17 = .ok (.iaload, 1) := dk_46 (dk_at dksX1_depth_0 17 rfl rfl)
theorem dX1_depth_18 : decode cX1_depth 18 = .ok (.i2d, 1) := dk_135 (dk_at dksX1_depth_0 18 rfl rfl)
theorem dX1_depth_19 : decode cX1_depth 19 = .ok (.ddiv, 1) := dk_111 (dk_at dksX1_depth_0 19 rfl rfl)
theorem dX1_depth_20 : decode cX1_depth 20 = .ok (.dreturn, 1) := dk_175 (dk_at dksX1_depth_0 20 rfl rfl)
abbrev cX1_course : ByteArray := prog_1_method_35_code
def yX1_course : MethodName := ⟨RX1, "course", "(I)J"⟩
def dkwX1_course_0 : List UInt8 := [42, 27, 182, 0, 96, 42, 182, 0, 84, 27, 182, 1, 6, 173]
abbrev dktX1_course_0 : List UInt8 := dkwX1_course_0 ++ []
theorem dksX1_course_0 : cX1_course.data.toList.drop 0 = dktX1_course_0 := by decide +kernel
theorem dX1_course_0 : decode cX1_course 0 = .ok (.aload_n 0, 1) := dk_42 (dk_at dksX1_course_0 0 rfl rfl)
theorem dX1_course_1 : decode cX1_course 1 = .ok (.iload_n 1, 1) := dk_27 (dk_at dksX1_course_0 1 rfl rfl)
theorem dX1_course_2 : decode cX1_course 2 = .ok (.invokevirtual 96, 3) := dk_182 0 96 (dk_at dksX1_course_0 2 rfl rfl)
theorem dX1_course_5 : decode cX1_course 5 = .ok (.aload_n 0, 1) := dk_42 (dk_at dksX1_course_0 5 rfl rfl)
theorem dX1_course_6 : decode cX1_course 6 = .ok (.invokevirtual 84, 3) := dk_182 0 84 (dk_at dksX1_course_0 6 rfl rfl)
theorem dX1_course_9 : decode cX1_course 9 = .ok (.iload_n 1, 1) := dk_27 (dk_at dksX1_course_0 9 rfl rfl)
theorem dX1_course_10 : decode cX1_course 10 = .ok (.invokevirtual 262, 3) := dk_182 1 6 (dk_at dksX1_course_0 10 rfl rfl)
theorem dX1_course_13 : decode cX1_course 13 = .ok (.lreturn, 1) := dk_173 (dk_at dksX1_course_0 13 rfl rfl)
abbrev cX1_amountFor : ByteArray := prog_1_method_37_code
def yX1_amountFor : MethodName := ⟨RX1, "amountFor", "(II)I"⟩
def dkwX1_amountFor_3 : List UInt8 := [2, 167, 0, 4, 29, 172]
abbrev dktX1_amountFor_3 : List UInt8 := dkwX1_amountFor_3 ++ []
def dkwX1_amountFor_2 : List UInt8 := [153, 0, 10, 21, 5, 54, 4, 167, 0, 8, 21, 5, 4, 96, 62, 167, 255, 212, 29, 18, 197, 164, 0, 7]
abbrev dktX1_amountFor_2 : List UInt8 := dkwX1_amountFor_2 ++ dktX1_amountFor_3
def dkwX1_amountFor_1 : List UInt8 := [21, 4, 96, 5, 108, 54, 5, 21, 5, 18, 197, 163, 0, 14, 42, 27, 28, 21, 5, 182, 1, 10]
abbrev dktX1_amountFor_1 : List UInt8 := dkwX1_amountFor_1 ++ dktX1_amountFor_2
def dkwX1_amountFor_0 : List UInt8 := [42, 27, 182, 0, 96, 42, 28, 182, 0, 96, 3, 62, 19, 1, 9, 54, 4, 29, 21, 4, 162, 0, 44, 29]
abbrev dktX1_amountFor_0 : List UInt8 := dkwX1_amountFor_0 ++ dktX1_amountFor_1
theorem dksX1_amountFor_0 : cX1_amountFor.data.toList.drop 0 = dktX1_amountFor_0 := by decide +kernel
theorem dksX1_amountFor_1 : cX1_amountFor.data.toList.drop 24 = dktX1_amountFor_1 := dk_seg dksX1_amountFor_0 24 rfl rfl
theorem dksX1_amountFor_2 : cX1_amountFor.data.toList.drop 46 = dktX1_amountFor_2 := dk_seg dksX1_amountFor_1 22 rfl rfl
theorem dksX1_amountFor_3 : cX1_amountFor.data.toList.drop 70 = dktX1_amountFor_3 := dk_seg dksX1_amountFor_2 24 rfl rfl
theorem dX1_amountFor_0 : decode cX1_amountFor 0 = .ok (.aload_n 0, 1) := dk_42 (dk_at dksX1_amountFor_0 0 rfl rfl)
theorem dX1_amountFor_1 : decode cX1_amountFor 1 = .ok (.iload_n 1, 1) := dk_27 (dk_at dksX1_amountFor_0 1 rfl rfl)
theorem dX1_amountFor_2 : decode cX1_amountFor 2 = .ok (.invokevirtual 96, 3) := dk_182 0 96 (dk_at dksX1_amountFor_0 2 rfl rfl)
theorem dX1_amountFor_5 : decode cX1_amountFor 5 = .ok (.aload_n 0, 1) := dk_42 (dk_at dksX1_amountFor_0 5 rfl rfl)
theorem dX1_amountFor_6 : decode cX1_amountFor 6 = .ok (.iload_n 2, 1) := dk_28 (dk_at dksX1_amountFor_0 6 rfl rfl)
theorem dX1_amountFor_7 : decode cX1_amountFor 7 = .ok (.invokevirtual 96, 3) := dk_182 0 96 (dk_at dksX1_amountFor_0 7 rfl rfl)
theorem dX1_amountFor_10 : decode cX1_amountFor 10 = .ok (.iconst 0, 1) := dk_3 (dk_at dksX1_amountFor_0 10 rfl rfl)
theorem dX1_amountFor_11 : decode cX1_amountFor 11 = .ok (.istore_n 3, 1) := dk_62 (dk_at dksX1_amountFor_0 11 rfl rfl)
theorem dX1_amountFor_12 : decode cX1_amountFor 12 = .ok (.ldc_w 265, 3) := dk_19 1 9 (dk_at dksX1_amountFor_0 12 rfl rfl)
theorem dX1_amountFor_15 : decode cX1_amountFor 15 = .ok (.istore 4, 2) := dk_54 4 (dk_at dksX1_amountFor_0 15 rfl rfl)
theorem dX1_amountFor_17 : decode cX1_amountFor 17 = .ok (.iload_n 3, 1) := dk_29 (dk_at dksX1_amountFor_0 17 rfl rfl)
theorem dX1_amountFor_18 : decode cX1_amountFor 18 = .ok (.iload 4, 2) := dk_21 4 (dk_at dksX1_amountFor_0 18 rfl rfl)
theorem dX1_amountFor_20 : decode cX1_amountFor 20 = .ok (.if_icmp .ge 44, 3) := dk_162 0 44 (dk_at dksX1_amountFor_0 20 rfl rfl)
theorem dX1_amountFor_23 : decode cX1_amountFor 23 = .ok (.iload_n 3, 1) := dk_29 (dk_at dksX1_amountFor_0 23 rfl rfl)
theorem dX1_amountFor_24 : decode cX1_amountFor 24 = .ok (.iload 4, 2) := dk_21 4 (dk_at dksX1_amountFor_1 0 rfl rfl)
theorem dX1_amountFor_26 : decode cX1_amountFor 26 = .ok (.iadd, 1) := dk_96 (dk_at dksX1_amountFor_1 2 rfl rfl)
theorem dX1_amountFor_27 : decode cX1_amountFor 27 = .ok (.iconst 2, 1) := dk_5 (dk_at dksX1_amountFor_1 3 rfl rfl)
theorem dX1_amountFor_28 : decode cX1_amountFor 28 = .ok (.idiv, 1) := dk_108 (dk_at dksX1_amountFor_1 4 rfl rfl)
theorem dX1_amountFor_29 : decode cX1_amountFor 29 = .ok (.istore 5, 2) := dk_54 5 (dk_at dksX1_amountFor_1 5 rfl rfl)
theorem dX1_amountFor_31 : decode cX1_amountFor 31 = .ok (.iload 5, 2) := dk_21 5 (dk_at dksX1_amountFor_1 7 rfl rfl)
theorem dX1_amountFor_33 : decode cX1_amountFor 33 = .ok (.ldc 197, 2) := dk_18 197 (dk_at dksX1_amountFor_1 9 rfl rfl)
theorem dX1_amountFor_35 : decode cX1_amountFor 35 = .ok (.if_icmp .gt 14, 3) := dk_163 0 14 (dk_at dksX1_amountFor_1 11 rfl rfl)
theorem dX1_amountFor_38 : decode cX1_amountFor 38 = .ok (.aload_n 0, 1) := dk_42 (dk_at dksX1_amountFor_1 14 rfl rfl)
theorem dX1_amountFor_39 : decode cX1_amountFor 39 = .ok (.iload_n 1, 1) := dk_27 (dk_at dksX1_amountFor_1 15 rfl rfl)
theorem dX1_amountFor_40 : decode cX1_amountFor 40 = .ok (.iload_n 2, 1) := dk_28 (dk_at dksX1_amountFor_1 16 rfl rfl)
theorem dX1_amountFor_41 : decode cX1_amountFor 41 = .ok (.iload 5, 2) := dk_21 5 (dk_at dksX1_amountFor_1 17 rfl rfl)
theorem dX1_amountFor_43 : decode cX1_amountFor 43 = .ok (.invokevirtual 266, 3) := dk_182 1 10 (dk_at dksX1_amountFor_1 19 rfl rfl)
theorem dX1_amountFor_46 : decode cX1_amountFor 46 = .ok (.ifCond .eq 10, 3) := dk_153 0 10 (dk_at dksX1_amountFor_2 0 rfl rfl)
theorem dX1_amountFor_49 : decode cX1_amountFor 49 = .ok (.iload 5, 2) := dk_21 5 (dk_at dksX1_amountFor_2 3 rfl rfl)
theorem dX1_amountFor_51 : decode cX1_amountFor 51 = .ok (.istore 4, 2) := dk_54 4 (dk_at dksX1_amountFor_2 5 rfl rfl)
theorem dX1_amountFor_53 : decode cX1_amountFor 53 = .ok (.goto 8, 3) := dk_167 0 8 (dk_at dksX1_amountFor_2 7 rfl rfl)
theorem dX1_amountFor_56 : decode cX1_amountFor 56 = .ok (.iload 5, 2) := dk_21 5 (dk_at dksX1_amountFor_2 10 rfl rfl)
theorem dX1_amountFor_58 : decode cX1_amountFor 58 = .ok (.iconst 1, 1) := dk_4 (dk_at dksX1_amountFor_2 12 rfl rfl)
theorem dX1_amountFor_59 : decode cX1_amountFor 59 = .ok (.iadd, 1) := dk_96 (dk_at dksX1_amountFor_2 13 rfl rfl)
theorem dX1_amountFor_60 : decode cX1_amountFor 60 = .ok (.istore_n 3, 1) := dk_62 (dk_at dksX1_amountFor_2 14 rfl rfl)
theorem dX1_amountFor_61 : decode cX1_amountFor 61 = .ok (.goto (-44), 3) := dk_167 255 212 (dk_at dksX1_amountFor_2 15 rfl rfl)
theorem dX1_amountFor_64 : decode cX1_amountFor 64 = .ok (.iload_n 3, 1) := dk_29 (dk_at dksX1_amountFor_2 18 rfl rfl)
theorem dX1_amountFor_65 : decode cX1_amountFor 65 = .ok (.ldc 197, 2) := dk_18 197 (dk_at dksX1_amountFor_2 19 rfl rfl)
theorem dX1_amountFor_67 : decode cX1_amountFor 67 = .ok (.if_icmp .le 7, 3) := dk_164 0 7 (dk_at dksX1_amountFor_2 21 rfl rfl)
theorem dX1_amountFor_70 : decode cX1_amountFor 70 = .ok (.iconst (-1), 1) := dk_2 (dk_at dksX1_amountFor_3 0 rfl rfl)
theorem dX1_amountFor_71 : decode cX1_amountFor 71 = .ok (.goto 4, 3) := dk_167 0 4 (dk_at dksX1_amountFor_3 1 rfl rfl)
theorem dX1_amountFor_74 : decode cX1_amountFor 74 = .ok (.iload_n 3, 1) := dk_29 (dk_at dksX1_amountFor_3 4 rfl rfl)
theorem dX1_amountFor_75 : decode cX1_amountFor 75 = .ok (.ireturn, 1) := dk_172 (dk_at dksX1_amountFor_3 5 rfl rfl)
abbrev cX1_wouldBeWet : ByteArray := prog_1_method_36_code
def yX1_wouldBeWet : MethodName := ⟨RX1, "wouldBeWet", "(III)Z"⟩
def dkwX1_wouldBeWet_0 : List UInt8 := [42, 180, 0, 41, 182, 0, 72, 58, 4, 25, 4, 27, 29, 182, 0, 210, 25, 4, 28, 182, 0, 251, 172]
abbrev dktX1_wouldBeWet_0 : List UInt8 := dkwX1_wouldBeWet_0 ++ []
theorem dksX1_wouldBeWet_0 : cX1_wouldBeWet.data.toList.drop 0 = dktX1_wouldBeWet_0 := by decide +kernel
theorem dX1_wouldBeWet_0 : decode cX1_wouldBeWet 0 = .ok (.aload_n 0, 1) := dk_42 (dk_at dksX1_wouldBeWet_0 0 rfl rfl)
theorem dX1_wouldBeWet_1 : decode cX1_wouldBeWet 1 = .ok (.getfield 41, 3) := dk_180 0 41 (dk_at dksX1_wouldBeWet_0 1 rfl rfl)
theorem dX1_wouldBeWet_4 : decode cX1_wouldBeWet 4 = .ok (.invokevirtual 72, 3) := dk_182 0 72 (dk_at dksX1_wouldBeWet_0 4 rfl rfl)
theorem dX1_wouldBeWet_7 : decode cX1_wouldBeWet 7 = .ok (.astore 4, 2) := dk_58 4 (dk_at dksX1_wouldBeWet_0 7 rfl rfl)
theorem dX1_wouldBeWet_9 : decode cX1_wouldBeWet 9 = .ok (.aload 4, 2) := dk_25 4 (dk_at dksX1_wouldBeWet_0 9 rfl rfl)
theorem dX1_wouldBeWet_11 : decode cX1_wouldBeWet 11 = .ok (.iload_n 1, 1) := dk_27 (dk_at dksX1_wouldBeWet_0 11 rfl rfl)
theorem dX1_wouldBeWet_12 : decode cX1_wouldBeWet 12 = .ok (.iload_n 3, 1) := dk_29 (dk_at dksX1_wouldBeWet_0 12 rfl rfl)
theorem dX1_wouldBeWet_13 : decode cX1_wouldBeWet 13 = .ok (.invokevirtual 210, 3) := dk_182 0 210 (dk_at dksX1_wouldBeWet_0 13 rfl rfl)
theorem dX1_wouldBeWet_16 : decode cX1_wouldBeWet 16 = .ok (.aload 4, 2) := dk_25 4 (dk_at dksX1_wouldBeWet_0 16 rfl rfl)
theorem dX1_wouldBeWet_18 : decode cX1_wouldBeWet 18 = .ok (.iload_n 2, 1) := dk_28 (dk_at dksX1_wouldBeWet_0 18 rfl rfl)
theorem dX1_wouldBeWet_19 : decode cX1_wouldBeWet 19 = .ok (.invokevirtual 251, 3) := dk_182 0 251 (dk_at dksX1_wouldBeWet_0 19 rfl rfl)
theorem dX1_wouldBeWet_22 : decode cX1_wouldBeWet 22 = .ok (.ireturn, 1) := dk_172 (dk_at dksX1_wouldBeWet_0 22 rfl rfl)
abbrev cX1_withoutGate : ByteArray := prog_1_method_40_code
def yX1_withoutGate : MethodName := ⟨RX1, "withoutGate", "(II)I"⟩
def dkwX1_withoutGate_1 : List UInt8 := [183, 0, 176, 184, 0, 150, 45, 182, 1, 16, 42, 180, 0, 41, 182, 1, 16, 100, 172]
abbrev dktX1_withoutGate_1 : List UInt8 := dkwX1_withoutGate_1 ++ []
def dkwX1_withoutGate_0 : List UInt8 := [42, 27, 28, 182, 0, 167, 42, 180, 0, 41, 182, 0, 72, 78, 45, 187, 0, 174, 89, 27, 28, 2]
abbrev dktX1_withoutGate_0 : List UInt8 := dkwX1_withoutGate_0 ++ dktX1_withoutGate_1
theorem dksX1_withoutGate_0 : cX1_withoutGate.data.toList.drop 0 = dktX1_withoutGate_0 := by decide +kernel
theorem dksX1_withoutGate_1 : cX1_withoutGate.data.toList.drop 22 = dktX1_withoutGate_1 := dk_seg dksX1_withoutGate_0 22 rfl rfl
theorem dX1_withoutGate_0 : decode cX1_withoutGate 0 = .ok (.aload_n 0, 1) := dk_42 (dk_at dksX1_withoutGate_0 0 rfl rfl)
theorem dX1_withoutGate_1 : decode cX1_withoutGate 1 = .ok (.iload_n 1, 1) := dk_27 (dk_at dksX1_withoutGate_0 1 rfl rfl)
theorem dX1_withoutGate_2 : decode cX1_withoutGate 2 = .ok (.iload_n 2, 1) := dk_28 (dk_at dksX1_withoutGate_0 2 rfl rfl)
theorem dX1_withoutGate_3 : decode cX1_withoutGate 3 = .ok (.invokevirtual 167, 3) := dk_182 0 167 (dk_at dksX1_withoutGate_0 3 rfl rfl)
theorem dX1_withoutGate_6 : decode cX1_withoutGate 6 = .ok (.aload_n 0, 1) := dk_42 (dk_at dksX1_withoutGate_0 6 rfl rfl)
theorem dX1_withoutGate_7 : decode cX1_withoutGate 7 = .ok (.getfield 41, 3) := dk_180 0 41 (dk_at dksX1_withoutGate_0 7 rfl rfl)
theorem dX1_withoutGate_10 : decode cX1_withoutGate 10 = .ok (.invokevirtual 72, 3) := dk_182 0 72 (dk_at dksX1_withoutGate_0 10 rfl rfl)
theorem dX1_withoutGate_13 : decode cX1_withoutGate 13 = .ok (.astore_n 3, 1) := dk_78 (dk_at dksX1_withoutGate_0 13 rfl rfl)
theorem dX1_withoutGate_14 : decode cX1_withoutGate 14 = .ok (.aload_n 3, 1) := dk_45 (dk_at dksX1_withoutGate_0 14 rfl rfl)
theorem dX1_withoutGate_15 : decode cX1_withoutGate 15 = .ok (.new 174, 3) := dk_187 0 174 (dk_at dksX1_withoutGate_0 15 rfl rfl)
theorem dX1_withoutGate_18 : decode cX1_withoutGate 18 = .ok (.dup, 1) := dk_89 (dk_at dksX1_withoutGate_0 18 rfl rfl)
theorem dX1_withoutGate_19 : decode cX1_withoutGate 19 = .ok (.iload_n 1, 1) := dk_27 (dk_at dksX1_withoutGate_0 19 rfl rfl)
theorem dX1_withoutGate_20 : decode cX1_withoutGate 20 = .ok (.iload_n 2, 1) := dk_28 (dk_at dksX1_withoutGate_0 20 rfl rfl)
theorem dX1_withoutGate_21 : decode cX1_withoutGate 21 = .ok (.iconst (-1), 1) := dk_2 (dk_at dksX1_withoutGate_0 21 rfl rfl)
theorem dX1_withoutGate_22 : decode cX1_withoutGate 22 = .ok (.invokespecial 176, 3) := dk_183 0 176 (dk_at dksX1_withoutGate_1 0 rfl rfl)
theorem dX1_withoutGate_25 : decode cX1_withoutGate 25 = .ok (.invokestatic 150, 3) := dk_184 0 150 (dk_at dksX1_withoutGate_1 3 rfl rfl)
theorem dX1_withoutGate_28 : decode cX1_withoutGate 28 = .ok (.aload_n 3, 1) := dk_45 (dk_at dksX1_withoutGate_1 6 rfl rfl)
theorem dX1_withoutGate_29 : decode cX1_withoutGate 29 = .ok (.invokevirtual 272, 3) := dk_182 1 16 (dk_at dksX1_withoutGate_1 7 rfl rfl)
theorem dX1_withoutGate_32 : decode cX1_withoutGate 32 = .ok (.aload_n 0, 1) := dk_42 (dk_at dksX1_withoutGate_1 10 rfl rfl)
theorem dX1_withoutGate_33 : decode cX1_withoutGate 33 = .ok (.getfield 41, 3) := dk_180 0 41 (dk_at dksX1_withoutGate_1 11 rfl rfl)
theorem dX1_withoutGate_36 : decode cX1_withoutGate 36 = .ok (.invokevirtual 272, 3) := dk_182 1 16 (dk_at dksX1_withoutGate_1 14 rfl rfl)
theorem dX1_withoutGate_39 : decode cX1_withoutGate 39 = .ok (.isub, 1) := dk_100 (dk_at dksX1_withoutGate_1 17 rfl rfl)
theorem dX1_withoutGate_40 : decode cX1_withoutGate 40 = .ok (.ireturn, 1) := dk_172 (dk_at dksX1_withoutGate_1 18 rfl rfl)
abbrev cX1_append : ByteArray := prog_1_method_41_code
def yX1_append : MethodName := ⟨RX1, "append", "(I)I"⟩
def dkwX1_append_2 : List UInt8 := [181, 1, 19, 42, 180, 1, 19, 172]
abbrev dktX1_append_2 : List UInt8 := dkwX1_append_2 ++ []
def dkwX1_append_1 : List UInt8 := [3, 184, 0, 204, 42, 180, 0, 52, 42, 180, 1, 19, 27, 145, 84, 42, 89, 180, 1, 19, 4, 96]
abbrev dktX1_append_1 : List UInt8 := dkwX1_append_1 ++ dktX1_append_2
def dkwX1_append_0 : List UInt8 := [27, 3, 16, 127, 184, 0, 88, 184, 0, 135, 42, 180, 1, 19, 17, 0, 150, 162, 0, 7, 4, 167, 0, 4]
abbrev dktX1_append_0 : List UInt8 := dkwX1_append_0 ++ dktX1_append_1
theorem dksX1_append_0 : cX1_append.data.toList.drop 0 = dktX1_append_0 := by decide +kernel
theorem dksX1_append_1 : cX1_append.data.toList.drop 24 = dktX1_append_1 := dk_seg dksX1_append_0 24 rfl rfl
theorem dksX1_append_2 : cX1_append.data.toList.drop 46 = dktX1_append_2 := dk_seg dksX1_append_1 22 rfl rfl
theorem dX1_append_0 : decode cX1_append 0 = .ok (.iload_n 1, 1) := dk_27 (dk_at dksX1_append_0 0 rfl rfl)
theorem dX1_append_1 : decode cX1_append 1 = .ok (.iconst 0, 1) := dk_3 (dk_at dksX1_append_0 1 rfl rfl)
theorem dX1_append_2 : decode cX1_append 2 = .ok (.bipush 127, 2) := dk_16 127 (dk_at dksX1_append_0 2 rfl rfl)
theorem dX1_append_4 : decode cX1_append 4 = .ok (.invokestatic 88, 3) := dk_184 0 88 (dk_at dksX1_append_0 4 rfl rfl)
theorem dX1_append_7 : decode cX1_append 7 = .ok (.invokestatic 135, 3) := dk_184 0 135 (dk_at dksX1_append_0 7 rfl rfl)
theorem dX1_append_10 : decode cX1_append 10 = .ok (.aload_n 0, 1) := dk_42 (dk_at dksX1_append_0 10 rfl rfl)
theorem dX1_append_11 : decode cX1_append 11 = .ok (.getfield 275, 3) := dk_180 1 19 (dk_at dksX1_append_0 11 rfl rfl)
theorem dX1_append_14 : decode cX1_append 14 = .ok (.sipush 150, 3) := dk_17 0 150 (dk_at dksX1_append_0 14 rfl rfl)
theorem dX1_append_17 : decode cX1_append 17 = .ok (.if_icmp .ge 7, 3) := dk_162 0 7 (dk_at dksX1_append_0 17 rfl rfl)
theorem dX1_append_20 : decode cX1_append 20 = .ok (.iconst 1, 1) := dk_4 (dk_at dksX1_append_0 20 rfl rfl)
theorem dX1_append_21 : decode cX1_append 21 = .ok (.goto 4, 3) := dk_167 0 4 (dk_at dksX1_append_0 21 rfl rfl)
theorem dX1_append_24 : decode cX1_append 24 = .ok (.iconst 0, 1) := dk_3 (dk_at dksX1_append_1 0 rfl rfl)
theorem dX1_append_25 : decode cX1_append 25 = .ok (.invokestatic 204, 3) := dk_184 0 204 (dk_at dksX1_append_1 1 rfl rfl)
theorem dX1_append_28 : decode cX1_append 28 = .ok (.aload_n 0, 1) := dk_42 (dk_at dksX1_append_1 4 rfl rfl)
theorem dX1_append_29 : decode cX1_append 29 = .ok (.getfield 52, 3) := dk_180 0 52 (dk_at dksX1_append_1 5 rfl rfl)
theorem dX1_append_32 : decode cX1_append 32 = .ok (.aload_n 0, 1) := dk_42 (dk_at dksX1_append_1 8 rfl rfl)
theorem dX1_append_33 : decode cX1_append 33 = .ok (.getfield 275, 3) := dk_180 1 19 (dk_at dksX1_append_1 9 rfl rfl)
theorem dX1_append_36 : decode cX1_append 36 = .ok (.iload_n 1, 1) := dk_27 (dk_at dksX1_append_1 12 rfl rfl)
theorem dX1_append_37 : decode cX1_append 37 = .ok (.i2b, 1) := dk_145 (dk_at dksX1_append_1 13 rfl rfl)
theorem dX1_append_38 : decode cX1_append 38 = .ok (.bastore, 1) := dk_84 (dk_at dksX1_append_1 14 rfl rfl)
theorem dX1_append_39 : decode cX1_append 39 = .ok (.aload_n 0, 1) := dk_42 (dk_at dksX1_append_1 15 rfl rfl)
theorem dX1_append_40 : decode cX1_append 40 = .ok (.dup, 1) := dk_89 (dk_at dksX1_append_1 16 rfl rfl)
theorem dX1_append_41 : decode cX1_append 41 = .ok (.getfield 275, 3) := dk_180 1 19 (dk_at dksX1_append_1 17 rfl rfl)
theorem dX1_append_44 : decode cX1_append 44 = .ok (.iconst 1, 1) := dk_4 (dk_at dksX1_append_1 20 rfl rfl)
theorem dX1_append_45 : decode cX1_append 45 = .ok (.iadd, 1) := dk_96 (dk_at dksX1_append_1 21 rfl rfl)
theorem dX1_append_46 : decode cX1_append 46 = .ok (.putfield 275, 3) := dk_181 1 19 (dk_at dksX1_append_2 0 rfl rfl)
theorem dX1_append_49 : decode cX1_append 49 = .ok (.aload_n 0, 1) := dk_42 (dk_at dksX1_append_2 3 rfl rfl)
theorem dX1_append_50 : decode cX1_append 50 = .ok (.getfield 275, 3) := dk_180 1 19 (dk_at dksX1_append_2 4 rfl rfl)
theorem dX1_append_53 : decode cX1_append 53 = .ok (.ireturn, 1) := dk_172 (dk_at dksX1_append_2 7 rfl rfl)
abbrev cX1_undo : ByteArray := prog_1_method_44_code
def yX1_undo : MethodName := ⟨RX1, "undo", "()I"⟩
def dkwX1_undo_1 : List UInt8 := [182, 1, 39, 192, 0, 56, 181, 0, 41, 42, 180, 0, 48, 182, 0, 64, 172]
abbrev dktX1_undo_1 : List UInt8 := dkwX1_undo_1 ++ []
def dkwX1_undo_0 : List UInt8 := [42, 180, 0, 48, 182, 1, 35, 154, 0, 7, 4, 167, 0, 4, 3, 184, 0, 204, 42, 42, 180, 0, 48]
abbrev dktX1_undo_0 : List UInt8 := dkwX1_undo_0 ++ dktX1_undo_1
theorem dksX1_undo_0 : cX1_undo.data.toList.drop 0 = dktX1_undo_0 := by decide +kernel
theorem dksX1_undo_1 : cX1_undo.data.toList.drop 23 = dktX1_undo_1 := dk_seg dksX1_undo_0 23 rfl rfl
theorem dX1_undo_0 : decode cX1_undo 0 = .ok (.aload_n 0, 1) := dk_42 (dk_at dksX1_undo_0 0 rfl rfl)
theorem dX1_undo_1 : decode cX1_undo 1 = .ok (.getfield 48, 3) := dk_180 0 48 (dk_at dksX1_undo_0 1 rfl rfl)
theorem dX1_undo_4 : decode cX1_undo 4 = .ok (.invokevirtual 291, 3) := dk_182 1 35 (dk_at dksX1_undo_0 4 rfl rfl)
theorem dX1_undo_7 : decode cX1_undo 7 = .ok (.ifCond .ne 7, 3) := dk_154 0 7 (dk_at dksX1_undo_0 7 rfl rfl)
theorem dX1_undo_10 : decode cX1_undo 10 = .ok (.iconst 1, 1) := dk_4 (dk_at dksX1_undo_0 10 rfl rfl)
theorem dX1_undo_11 : decode cX1_undo 11 = .ok (.goto 4, 3) := dk_167 0 4 (dk_at dksX1_undo_0 11 rfl rfl)
theorem dX1_undo_14 : decode cX1_undo 14 = .ok (.iconst 0, 1) := dk_3 (dk_at dksX1_undo_0 14 rfl rfl)
theorem dX1_undo_15 : decode cX1_undo 15 = .ok (.invokestatic 204, 3) := dk_184 0 204 (dk_at dksX1_undo_0 15 rfl rfl)
theorem dX1_undo_18 : decode cX1_undo 18 = .ok (.aload_n 0, 1) := dk_42 (dk_at dksX1_undo_0 18 rfl rfl)
theorem dX1_undo_19 : decode cX1_undo 19 = .ok (.aload_n 0, 1) := dk_42 (dk_at dksX1_undo_0 19 rfl rfl)
theorem dX1_undo_20 : decode cX1_undo 20 = .ok (.getfield 48, 3) := dk_180 0 48 (dk_at dksX1_undo_0 20 rfl rfl)
theorem dX1_undo_23 : decode cX1_undo 23 = .ok (.invokevirtual 295, 3) := dk_182 1 39 (dk_at dksX1_undo_1 0 rfl rfl)
theorem dX1_undo_26 : decode cX1_undo 26 = .ok (.checkcast 56, 3) := dk_192 0 56 (dk_at dksX1_undo_1 3 rfl rfl)
theorem dX1_undo_29 : decode cX1_undo 29 = .ok (.putfield 41, 3) := dk_181 0 41 (dk_at dksX1_undo_1 6 rfl rfl)
theorem dX1_undo_32 : decode cX1_undo 32 = .ok (.aload_n 0, 1) := dk_42 (dk_at dksX1_undo_1 9 rfl rfl)
theorem dX1_undo_33 : decode cX1_undo 33 = .ok (.getfield 48, 3) := dk_180 0 48 (dk_at dksX1_undo_1 10 rfl rfl)
theorem dX1_undo_36 : decode cX1_undo 36 = .ok (.invokevirtual 64, 3) := dk_182 0 64 (dk_at dksX1_undo_1 13 rfl rfl)
theorem dX1_undo_39 : decode cX1_undo 39 = .ok (.ireturn, 1) := dk_172 (dk_at dksX1_undo_1 16 rfl rfl)
theorem q102 : (Jvm.Cond.initialized "LakeLevels") ∈ lw_all := lw_g (lw_at lw_m1 1 rfl) rfl
theorem q150 : (Jvm.Cond.instantiable "LakeLevels" (4 : Nat)) ∈ lw_all := lw_g (lw_at lw_m1 49 rfl) rfl
theorem q152 : (Jvm.Cond.instanceMethod ({ cls := "LakeLevels", name := "<init>", desc := "()V" } : Jvm.MethodName)) ∈ lw_all := lw_g (lw_at lw_m1 51 rfl) rfl
theorem q153 : (Jvm.Cond.code ({ cls := "LakeLevels", name := "<init>", desc := "()V" } : Jvm.MethodName) prog_1_method_8_code (1 : Nat) (Option.none : Option Jvm.ClassFile.FieldType)) ∈ lw_all := lw_g (lw_at lw_m1 52 rfl) rfl
theorem q154 : (Jvm.Cond.methodLink "LakeLevels" (25 : Nat) ({ cls := "java/lang/Object", name := "<init>", desc := "()V" } : Jvm.MethodName)) ∈ lw_all := lw_g (lw_at lw_m1 53 rfl) rfl
theorem q157 : (Jvm.Cond.classLink "LakeLevels" (30 : Nat) "LakeLevels$Land") ∈ lw_all := lw_g (lw_at lw_m1 56 rfl) rfl
theorem q159 : (Jvm.Cond.methodLink "LakeLevels" (32 : Nat) ({ cls := "LakeLevels$Land", name := "<init>", desc := "(II)V" } : Jvm.MethodName)) ∈ lw_all := lw_g (lw_at lw_m1 58 rfl) rfl
theorem q175 : (Jvm.Cond.fieldLinkNest "LakeLevels" (141 : Nat) "LakeLevels$Land" "heights" "[I" "LakeLevels") ∈ lw_tbl := lw_at lw_m1 74 rfl
theorem q180 : (Jvm.Cond.fieldLinkNest "LakeLevels" (154 : Nat) "LakeLevels$Land" "drains" "J" "LakeLevels") ∈ lw_tbl := lw_at lw_m1 79 rfl
theorem q190 : (Jvm.Cond.fieldLinkNest "LakeLevels" (183 : Nat) "LakeLevels$Land" "basinCount" "I" "LakeLevels") ∈ lw_tbl := lw_at lw_m1 89 rfl
theorem q214 : (Jvm.Cond.methodLink "LakeLevels" (35 : Nat) ({ cls := "LakeLevels", name := "dry", desc := "(LLakeLevels$Land;)LLakeLevels$State;" } : Jvm.MethodName)) ∈ lw_all := lw_g (lw_at lw_m1 113 rfl) rfl
theorem q215 : (Jvm.Cond.static ({ cls := "LakeLevels", name := "dry", desc := "(LLakeLevels$Land;)LLakeLevels$State;" } : Jvm.MethodName)) ∈ lw_all := lw_g (lw_at lw_m1 114 rfl) rfl
theorem q216 : (Jvm.Cond.code ({ cls := "LakeLevels", name := "dry", desc := "(LLakeLevels$Land;)LLakeLevels$State;" } : Jvm.MethodName) prog_1_method_9_code (2 : Nat) (Option.some (Jvm.ClassFile.FieldType.object "LakeLevels$State"))) ∈ lw_all := lw_g (lw_at lw_m1 115 rfl) rfl
theorem q217 : (Jvm.Cond.classLink "LakeLevels" (56 : Nat) "LakeLevels$State") ∈ lw_all := lw_g (lw_at lw_m1 116 rfl) rfl
theorem q219 : (Jvm.Cond.methodLink "LakeLevels" (58 : Nat) ({ cls := "LakeLevels$State", name := "<init>", desc := "(LLakeLevels$Land;)V" } : Jvm.MethodName)) ∈ lw_all := lw_g (lw_at lw_m1 118 rfl) rfl
theorem q262 : (Jvm.Cond.fieldLinkNest "LakeLevels" (80 : Nat) "LakeLevels$State" "land" "LLakeLevels$Land;" "LakeLevels") ∈ lw_tbl := lw_at lw_m1 161 rfl
theorem q264 : (Jvm.Cond.fieldLinkNest "LakeLevels" (104 : Nat) "LakeLevels$State" "lakes" "Ljava/util/LinkedList;" "LakeLevels") ∈ lw_tbl := lw_at lw_m1 163 rfl
theorem q267 : (Jvm.Cond.fieldLinkNest "LakeLevels" (213 : Nat) "LakeLevels$State" "poured" "J" "LakeLevels") ∈ lw_tbl := lw_at lw_m1 166 rfl
theorem q269 : (Jvm.Cond.fieldLinkNest "LakeLevels" (207 : Nat) "LakeLevels$State" "lost" "J" "LakeLevels") ∈ lw_tbl := lw_at lw_m1 168 rfl
theorem q271 : (Jvm.Cond.fieldLinkNest "LakeLevels" (234 : Nat) "LakeLevels$State" "evaporated" "J" "LakeLevels") ∈ lw_tbl := lw_at lw_m1 170 rfl
theorem q285 : (Jvm.Cond.methodLink "LakeLevels" (61 : Nat) ({ cls := "LakeLevels$State", name := "find", desc := "()V" } : Jvm.MethodName)) ∈ lw_all := lw_g (lw_at lw_m1 184 rfl) rfl
theorem q302 : (Jvm.Cond.static ({ cls := "LakeLevels", name := "has", desc := "(JI)Z" } : Jvm.MethodName)) ∈ lw_all := lw_g (lw_at lw_m1 201 rfl) rfl
theorem q303 : (Jvm.Cond.code ({ cls := "LakeLevels", name := "has", desc := "(JI)Z" } : Jvm.MethodName) prog_1_method_5_code (3 : Nat) (Option.some Jvm.ClassFile.FieldType.boolean)) ∈ lw_all := lw_g (lw_at lw_m1 202 rfl) rfl
theorem q441 : (Jvm.Cond.selects "LakeLevels" ({ cls := "java/lang/Object", name := "getClass", desc := "()Ljava/lang/Class;" } : Jvm.MethodName) ({ cls := "java/lang/Object", name := "getClass", desc := "()Ljava/lang/Class;" } : Jvm.MethodName)) ∈ lw_all := lw_g (lw_at lw_m2 100 rfl) rfl
theorem q542 : (Jvm.Cond.static ({ cls := "LakeLevels", name := "lowest", desc := "(J)I" } : Jvm.MethodName)) ∈ lw_all := lw_g (lw_at lw_m2 201 rfl) rfl
theorem q543 : (Jvm.Cond.code ({ cls := "LakeLevels", name := "lowest", desc := "(J)I" } : Jvm.MethodName) prog_1_method_6_code (2 : Nat) (Option.some Jvm.ClassFile.FieldType.int)) ∈ lw_all := lw_g (lw_at lw_m2 202 rfl) rfl
theorem q544 : (Jvm.Cond.methodLink "LakeLevels" (19 : Nat) ({ cls := "java/lang/Long", name := "numberOfTrailingZeros", desc := "(J)I" } : Jvm.MethodName)) ∈ lw_all := lw_g (lw_at lw_m2 203 rfl) rfl
theorem q585 : (Jvm.Cond.fieldLinkNest "LakeLevels" (244 : Nat) "LakeLevels$Lake" "cells" "J" "LakeLevels") ∈ lw_tbl := lw_at lw_m3 4 rfl
theorem q596 : (Jvm.Cond.fieldLinkNest "LakeLevels" (227 : Nat) "LakeLevels$Lake" "volume" "I" "LakeLevels") ∈ lw_tbl := lw_at lw_m3 15 rfl
theorem q956 : (Jvm.Cond.classLink "LakeLevels" (45 : Nat) "java/util/ArrayDeque") ∈ lw_all := lw_g (lw_at lw_m4 135 rfl) rfl
theorem q957 : (Jvm.Cond.methodLink "LakeLevels" (47 : Nat) ({ cls := "java/util/ArrayDeque", name := "<init>", desc := "()V" } : Jvm.MethodName)) ∈ lw_all := lw_g (lw_at lw_m4 136 rfl) rfl
theorem q958 : (Jvm.Cond.fieldLink "LakeLevels" (41 : Nat) "LakeLevels" "state" "LLakeLevels$State;") ∈ lw_all := lw_g (lw_at lw_m4 137 rfl) rfl
theorem q959 : (Jvm.Cond.fieldLink "LakeLevels" (48 : Nat) "LakeLevels" "saved" "Ljava/util/ArrayDeque;") ∈ lw_all := lw_g (lw_at lw_m4 138 rfl) rfl
theorem q961 : (Jvm.Cond.fieldLink "LakeLevels" (52 : Nat) "LakeLevels" "text" "[B") ∈ lw_all := lw_g (lw_at lw_m4 140 rfl) rfl
theorem q963 : (Jvm.Cond.fieldLink "LakeLevels" (275 : Nat) "LakeLevels" "textLength" "I") ∈ lw_all := lw_g (lw_at lw_m4 142 rfl) rfl
theorem q964 : (Jvm.Cond.lays "LakeLevels" "LakeLevels" "state" "LLakeLevels$State;") ∈ lw_all := lw_g (lw_at lw_m4 143 rfl) rfl
theorem q965 : (Jvm.Cond.soleField "LakeLevels" "state") ∈ lw_all := lw_g (lw_at lw_m4 144 rfl) rfl
theorem q966 : (Jvm.Cond.laysFinal "LakeLevels" "LakeLevels" "saved" "Ljava/util/ArrayDeque;") ∈ lw_all := lw_g (lw_at lw_m4 145 rfl) rfl
theorem q967 : (Jvm.Cond.soleField "LakeLevels" "saved") ∈ lw_all := lw_g (lw_at lw_m4 146 rfl) rfl
theorem q968 : (Jvm.Cond.laysFinal "LakeLevels" "LakeLevels" "text" "[B") ∈ lw_all := lw_g (lw_at lw_m4 147 rfl) rfl
theorem q969 : (Jvm.Cond.soleField "LakeLevels" "text") ∈ lw_all := lw_g (lw_at lw_m4 148 rfl) rfl
theorem q970 : (Jvm.Cond.lays "LakeLevels" "LakeLevels" "textLength" "I") ∈ lw_all := lw_g (lw_at lw_m4 149 rfl) rfl
theorem q971 : (Jvm.Cond.soleField "LakeLevels" "textLength") ∈ lw_all := lw_g (lw_at lw_m4 150 rfl) rfl
theorem q972 : (Jvm.Cond.superclass "LakeLevels" "java/lang/Object") ∈ lw_all := lw_g (lw_at lw_m4 151 rfl) rfl
theorem q974 : (Jvm.Cond.instanceMethod ({ cls := "LakeLevels", name := "deepest", desc := "()I" } : Jvm.MethodName)) ∈ lw_all := lw_g (lw_at lw_m4 153 rfl) rfl
theorem q975 : (Jvm.Cond.selects "LakeLevels" ({ cls := "LakeLevels", name := "deepest", desc := "()I" } : Jvm.MethodName) ({ cls := "LakeLevels", name := "deepest", desc := "()I" } : Jvm.MethodName)) ∈ lw_all := lw_g (lw_at lw_m4 154 rfl) rfl
theorem q976 : (Jvm.Cond.code ({ cls := "LakeLevels", name := "deepest", desc := "()I" } : Jvm.MethodName) prog_1_method_34_code (5 : Nat) (Option.some Jvm.ClassFile.FieldType.int)) ∈ lw_all := lw_g (lw_at lw_m4 155 rfl) rfl
theorem q977 : (Jvm.Cond.methodLink "LakeLevels" (84 : Nat) ({ cls := "LakeLevels", name := "land", desc := "()LLakeLevels$Land;" } : Jvm.MethodName)) ∈ lw_all := lw_g (lw_at lw_m4 156 rfl) rfl
theorem q978 : (Jvm.Cond.privateMethod ({ cls := "LakeLevels", name := "land", desc := "()LLakeLevels$Land;" } : Jvm.MethodName)) ∈ lw_tbl := lw_at lw_m4 157 rfl
theorem q979 : (Jvm.Cond.instanceMethod ({ cls := "LakeLevels", name := "land", desc := "()LLakeLevels$Land;" } : Jvm.MethodName)) ∈ lw_all := lw_g (lw_at lw_m4 158 rfl) rfl
theorem q980 : (Jvm.Cond.code ({ cls := "LakeLevels", name := "land", desc := "()LLakeLevels$Land;" } : Jvm.MethodName) prog_1_method_11_code (1 : Nat) (Option.some (Jvm.ClassFile.FieldType.object "LakeLevels$Land"))) ∈ lw_all := lw_g (lw_at lw_m4 159 rfl) rfl
theorem q981 : (Jvm.Cond.methodLink "LakeLevels" (87 : Nat) ({ cls := "LakeLevels$Land", name := "size", desc := "()I" } : Jvm.MethodName)) ∈ lw_all := lw_g (lw_at lw_m4 160 rfl) rfl
theorem q982 : (Jvm.Cond.methodLink "LakeLevels" (258 : Nat) ({ cls := "LakeLevels", name := "depthOf", desc := "(I)[I" } : Jvm.MethodName)) ∈ lw_all := lw_g (lw_at lw_m4 161 rfl) rfl
theorem q983 : (Jvm.Cond.privateMethod ({ cls := "LakeLevels", name := "depthOf", desc := "(I)[I" } : Jvm.MethodName)) ∈ lw_tbl := lw_at lw_m4 162 rfl
theorem q984 : (Jvm.Cond.instanceMethod ({ cls := "LakeLevels", name := "depthOf", desc := "(I)[I" } : Jvm.MethodName)) ∈ lw_all := lw_g (lw_at lw_m4 163 rfl) rfl
theorem q985 : (Jvm.Cond.code ({ cls := "LakeLevels", name := "depthOf", desc := "(I)[I" } : Jvm.MethodName) prog_1_method_32_code (4 : Nat) (Option.some (Jvm.ClassFile.FieldType.array Jvm.ClassFile.FieldType.int))) ∈ lw_all := lw_g (lw_at lw_m4 164 rfl) rfl
theorem q986 : (Jvm.Cond.methodLink "LakeLevels" (251 : Nat) ({ cls := "LakeLevels$State", name := "isWet", desc := "(I)Z" } : Jvm.MethodName)) ∈ lw_all := lw_g (lw_at lw_m4 165 rfl) rfl
theorem q1015 : (Jvm.Cond.static ({ cls := "LakeLevels", name := "gcd", desc := "(II)I" } : Jvm.MethodName)) ∈ lw_all := lw_g (lw_at lw_m4 194 rfl) rfl
theorem q1016 : (Jvm.Cond.code ({ cls := "LakeLevels", name := "gcd", desc := "(II)I" } : Jvm.MethodName) prog_1_method_7_code (5 : Nat) (Option.some Jvm.ClassFile.FieldType.int)) ∈ lw_all := lw_g (lw_at lw_m4 195 rfl) rfl
theorem q1017 : (Jvm.Cond.methodLink "LakeLevels" (255 : Nat) ({ cls := "LakeLevels$State", name := "lakeAt", desc := "(I)LLakeLevels$Lake;" } : Jvm.MethodName)) ∈ lw_all := lw_g (lw_at lw_m4 196 rfl) rfl
theorem q1018 : (Jvm.Cond.methodLink "LakeLevels" (247 : Nat) ({ cls := "LakeLevels$Lake", name := "levelPart", desc := "(LLakeLevels$Land;I)I" } : Jvm.MethodName)) ∈ lw_all := lw_g (lw_at lw_m4 197 rfl) rfl
theorem q1020 : (Jvm.Cond.instanceMethod ({ cls := "LakeLevels", name := "rainToJoin", desc := "()I" } : Jvm.MethodName)) ∈ lw_all := lw_g (lw_at lw_m4 199 rfl) rfl
theorem q1021 : (Jvm.Cond.selects "LakeLevels" ({ cls := "LakeLevels", name := "rainToJoin", desc := "()I" } : Jvm.MethodName) ({ cls := "LakeLevels", name := "rainToJoin", desc := "()I" } : Jvm.MethodName)) ∈ lw_all := lw_g (lw_at lw_m4 200 rfl) rfl
theorem q1022 : (Jvm.Cond.code ({ cls := "LakeLevels", name := "rainToJoin", desc := "()I" } : Jvm.MethodName) prog_1_method_39_code (2 : Nat) (Option.some Jvm.ClassFile.FieldType.int)) ∈ lw_all := lw_g (lw_at lw_m4 201 rfl) rfl
theorem q1023 : (Jvm.Cond.methodLink "LakeLevels" (269 : Nat) ({ cls := "LakeLevels", name := "wouldJoin", desc := "(I)Z" } : Jvm.MethodName)) ∈ lw_all := lw_g (lw_at lw_m4 202 rfl) rfl
theorem q1024 : (Jvm.Cond.privateMethod ({ cls := "LakeLevels", name := "wouldJoin", desc := "(I)Z" } : Jvm.MethodName)) ∈ lw_tbl := lw_at lw_m4 203 rfl
theorem q1025 : (Jvm.Cond.instanceMethod ({ cls := "LakeLevels", name := "wouldJoin", desc := "(I)Z" } : Jvm.MethodName)) ∈ lw_all := lw_g (lw_at lw_m4 204 rfl) rfl
theorem q1026 : (Jvm.Cond.code ({ cls := "LakeLevels", name := "wouldJoin", desc := "(I)Z" } : Jvm.MethodName) prog_1_method_38_code (3 : Nat) (Option.some Jvm.ClassFile.FieldType.boolean)) ∈ lw_all := lw_g (lw_at lw_m4 205 rfl) rfl
theorem q1027 : (Jvm.Cond.methodLink "LakeLevels" (72 : Nat) ({ cls := "LakeLevels$State", name := "copy", desc := "()LLakeLevels$State;" } : Jvm.MethodName)) ∈ lw_all := lw_g (lw_at lw_m4 206 rfl) rfl
theorem q1048 : (Jvm.Cond.methodLink "LakeLevels" (216 : Nat) ({ cls := "LakeLevels$State", name := "rain", desc := "(I)V" } : Jvm.MethodName)) ∈ lw_all := lw_g (lw_at lw_m4 227 rfl) rfl
theorem q1389 : (Jvm.Cond.methodLink "LakeLevels" (108 : Nat) ({ cls := "java/util/LinkedList", name := "size", desc := "()I" } : Jvm.MethodName)) ∈ lw_all := lw_g (lw_at lw_m6 88 rfl) rfl
theorem q1391 : (Jvm.Cond.instanceMethod ({ cls := "LakeLevels", name := "clearText", desc := "()I" } : Jvm.MethodName)) ∈ lw_all := lw_g (lw_at lw_m6 90 rfl) rfl
theorem q1392 : (Jvm.Cond.selects "LakeLevels" ({ cls := "LakeLevels", name := "clearText", desc := "()I" } : Jvm.MethodName) ({ cls := "LakeLevels", name := "clearText", desc := "()I" } : Jvm.MethodName)) ∈ lw_all := lw_g (lw_at lw_m6 91 rfl) rfl
theorem q1393 : (Jvm.Cond.code ({ cls := "LakeLevels", name := "clearText", desc := "()I" } : Jvm.MethodName) prog_1_method_42_code (2 : Nat) (Option.some Jvm.ClassFile.FieldType.int)) ∈ lw_all := lw_g (lw_at lw_m6 92 rfl) rfl
theorem q1395 : (Jvm.Cond.instanceMethod ({ cls := "LakeLevels", name := "parse", desc := "()I" } : Jvm.MethodName)) ∈ lw_all := lw_g (lw_at lw_m6 94 rfl) rfl
theorem q1396 : (Jvm.Cond.selects "LakeLevels" ({ cls := "LakeLevels", name := "parse", desc := "()I" } : Jvm.MethodName) ({ cls := "LakeLevels", name := "parse", desc := "()I" } : Jvm.MethodName)) ∈ lw_all := lw_g (lw_at lw_m6 95 rfl) rfl
theorem q1397 : (Jvm.Cond.codeWith ({ cls := "LakeLevels", name := "parse", desc := "()I" } : Jvm.MethodName) prog_1_method_43_code (2 : Nat) (Option.some Jvm.ClassFile.FieldType.int) [((0 : Nat), (28 : Nat), (29 : Nat), (286 : Nat))]) ∈ lw_all := lw_g (lw_at lw_m6 96 rfl) rfl
theorem q1398 : (Jvm.Cond.classLink "LakeLevels" (286 : Nat) "LakeLevels$SyntaxError") ∈ lw_all := lw_g (lw_at lw_m6 97 rfl) rfl
theorem q1399 : (Jvm.Cond.classLink "LakeLevels" (278 : Nat) "LakeLevels$Parser") ∈ lw_all := lw_g (lw_at lw_m6 98 rfl) rfl
theorem q1401 : (Jvm.Cond.methodLinkNest "LakeLevels" (280 : Nat) ({ cls := "LakeLevels$Parser", name := "<init>", desc := "(LLakeLevels;)V" } : Jvm.MethodName) "LakeLevels") ∈ lw_tbl := lw_at lw_m6 100 rfl
theorem q1412 : (Jvm.Cond.methodLink "LakeLevels" (283 : Nat) ({ cls := "LakeLevels$Parser", name := "parse", desc := "()LLakeLevels$Land;" } : Jvm.MethodName)) ∈ lw_all := lw_g (lw_at lw_m6 111 rfl) rfl
theorem q1447 : (Jvm.Cond.fieldLinkNest "LakeLevels" (288 : Nat) "LakeLevels$SyntaxError" "position" "I" "LakeLevels") ∈ lw_tbl := lw_at lw_m6 146 rfl
theorem q1476 : (Jvm.Cond.methodLink "LakeLevels" (138 : Nat) ({ cls := "LakeLevels", name := "save", desc := "()V" } : Jvm.MethodName)) ∈ lw_all := lw_g (lw_at lw_m6 175 rfl) rfl
theorem q1477 : (Jvm.Cond.privateMethod ({ cls := "LakeLevels", name := "save", desc := "()V" } : Jvm.MethodName)) ∈ lw_tbl := lw_at lw_m6 176 rfl
theorem q1478 : (Jvm.Cond.instanceMethod ({ cls := "LakeLevels", name := "save", desc := "()V" } : Jvm.MethodName)) ∈ lw_all := lw_g (lw_at lw_m6 177 rfl) rfl
theorem q1479 : (Jvm.Cond.code ({ cls := "LakeLevels", name := "save", desc := "()V" } : Jvm.MethodName) prog_1_method_10_code (1 : Nat) (Option.none : Option Jvm.ClassFile.FieldType)) ∈ lw_all := lw_g (lw_at lw_m6 178 rfl) rfl
theorem q1480 : (Jvm.Cond.methodLink "LakeLevels" (64 : Nat) ({ cls := "java/util/ArrayDeque", name := "size", desc := "()I" } : Jvm.MethodName)) ∈ lw_all := lw_g (lw_at lw_m6 179 rfl) rfl
theorem q1487 : (Jvm.Cond.methodLink "LakeLevels" (68 : Nat) ({ cls := "java/util/ArrayDeque", name := "removeFirst", desc := "()Ljava/lang/Object;" } : Jvm.MethodName)) ∈ lw_all := lw_g (lw_at lw_m6 186 rfl) rfl
theorem q1488 : (Jvm.Cond.methodLink "LakeLevels" (76 : Nat) ({ cls := "java/util/ArrayDeque", name := "addLast", desc := "(Ljava/lang/Object;)V" } : Jvm.MethodName)) ∈ lw_all := lw_g (lw_at lw_m6 187 rfl) rfl
theorem q1490 : (Jvm.Cond.instanceMethod ({ cls := "LakeLevels", name := "digest", desc := "()J" } : Jvm.MethodName)) ∈ lw_all := lw_g (lw_at lw_m6 189 rfl) rfl
theorem q1491 : (Jvm.Cond.selects "LakeLevels" ({ cls := "LakeLevels", name := "digest", desc := "()J" } : Jvm.MethodName) ({ cls := "LakeLevels", name := "digest", desc := "()J" } : Jvm.MethodName)) ∈ lw_all := lw_g (lw_at lw_m6 190 rfl) rfl
theorem q1492 : (Jvm.Cond.code ({ cls := "LakeLevels", name := "digest", desc := "()J" } : Jvm.MethodName) prog_1_method_45_code (6 : Nat) (Option.some Jvm.ClassFile.FieldType.long)) ∈ lw_all := lw_g (lw_at lw_m6 191 rfl) rfl
theorem q1493 : (Jvm.Cond.constantLong "LakeLevels" (298 : Nat) (94519 : Int64)) ∈ lw_all := lw_g (lw_at lw_m6 192 rfl) rfl
theorem q1494 : (Jvm.Cond.constantLong "LakeLevels" (300 : Nat) (31 : Int64)) ∈ lw_all := lw_g (lw_at lw_m6 193 rfl) rfl
theorem q1495 : (Jvm.Cond.methodLink "LakeLevels" (193 : Nat) ({ cls := "LakeLevels$State", name := "count", desc := "(I)I" } : Jvm.MethodName)) ∈ lw_all := lw_g (lw_at lw_m6 194 rfl) rfl
theorem q1515 : (Jvm.Cond.methodLink "LakeLevels" (187 : Nat) ({ cls := "LakeLevels$State", name := "cell", desc := "(II)I" } : Jvm.MethodName)) ∈ lw_all := lw_g (lw_at lw_m6 214 rfl) rfl
theorem q1531 : (Jvm.Cond.selects "LakeLevels" ({ cls := "java/lang/Object", name := "equals", desc := "(Ljava/lang/Object;)Z" } : Jvm.MethodName) ({ cls := "java/lang/Object", name := "equals", desc := "(Ljava/lang/Object;)Z" } : Jvm.MethodName)) ∈ lw_all := lw_g (lw_at lw_m6 230 rfl) rfl
theorem q1561 : (Jvm.Cond.methodLink "LakeLevels" (302 : Nat) ({ cls := "java/util/LinkedList", name := "iterator", desc := "()Ljava/util/Iterator;" } : Jvm.MethodName)) ∈ lw_all := lw_g (lw_at lw_m7 20 rfl) rfl
theorem q1562 : (Jvm.Cond.interfaceEntry "LakeLevels" (306 : Nat)) ∈ lw_tbl := lw_at lw_m7 21 rfl
theorem q1563 : (Jvm.Cond.methodLink "LakeLevels" (306 : Nat) ({ cls := "java/util/Iterator", name := "hasNext", desc := "()Z" } : Jvm.MethodName)) ∈ lw_all := lw_g (lw_at lw_m7 22 rfl) rfl
theorem q1564 : (Jvm.Cond.interfaceEntry "LakeLevels" (311 : Nat)) ∈ lw_tbl := lw_at lw_m7 23 rfl
theorem q1565 : (Jvm.Cond.methodLink "LakeLevels" (311 : Nat) ({ cls := "java/util/Iterator", name := "next", desc := "()Ljava/lang/Object;" } : Jvm.MethodName)) ∈ lw_all := lw_g (lw_at lw_m7 24 rfl) rfl
theorem q1566 : (Jvm.Cond.classLink "LakeLevels" (115 : Nat) "LakeLevels$Lake") ∈ lw_all := lw_g (lw_at lw_m7 25 rfl) rfl
theorem q1567 : (Jvm.Cond.methodLink "LakeLevels" (240 : Nat) ({ cls := "LakeLevels$State", name := "lake", desc := "(LLakeLevels$Lake;I)I" } : Jvm.MethodName)) ∈ lw_all := lw_g (lw_at lw_m7 26 rfl) rfl
theorem q1586 : (Jvm.Cond.methodLink "LakeLevels" (237 : Nat) ({ cls := "LakeLevels$State", name := "balance", desc := "(I)J" } : Jvm.MethodName)) ∈ lw_all := lw_g (lw_at lw_m7 45 rfl) rfl
theorem q1599 : (Jvm.Cond.instanceMethod ({ cls := "LakeLevels", name := "begin", desc := "(II)I" } : Jvm.MethodName)) ∈ lw_all := lw_g (lw_at lw_m7 58 rfl) rfl
theorem q1600 : (Jvm.Cond.selects "LakeLevels" ({ cls := "LakeLevels", name := "begin", desc := "(II)I" } : Jvm.MethodName) ({ cls := "LakeLevels", name := "begin", desc := "(II)I" } : Jvm.MethodName)) ∈ lw_all := lw_g (lw_at lw_m7 59 rfl) rfl
theorem q1601 : (Jvm.Cond.code ({ cls := "LakeLevels", name := "begin", desc := "(II)I" } : Jvm.MethodName) prog_1_method_16_code (3 : Nat) (Option.some Jvm.ClassFile.FieldType.int)) ∈ lw_all := lw_g (lw_at lw_m7 60 rfl) rfl
theorem q1602 : (Jvm.Cond.methodLink "LakeLevels" (88 : Nat) ({ cls := "LakeLevels", name := "inRange", desc := "(III)Z" } : Jvm.MethodName)) ∈ lw_all := lw_g (lw_at lw_m7 61 rfl) rfl
theorem q1603 : (Jvm.Cond.static ({ cls := "LakeLevels", name := "inRange", desc := "(III)Z" } : Jvm.MethodName)) ∈ lw_all := lw_g (lw_at lw_m7 62 rfl) rfl
theorem q1604 : (Jvm.Cond.code ({ cls := "LakeLevels", name := "inRange", desc := "(III)Z" } : Jvm.MethodName) prog_1_method_1_code (3 : Nat) (Option.some Jvm.ClassFile.FieldType.boolean)) ∈ lw_all := lw_g (lw_at lw_m7 63 rfl) rfl
theorem q1605 : (Jvm.Cond.methodLink "LakeLevels" (135 : Nat) ({ cls := "LakeLevels", name := "require", desc := "(Z)V" } : Jvm.MethodName)) ∈ lw_all := lw_g (lw_at lw_m7 64 rfl) rfl
theorem q1606 : (Jvm.Cond.static ({ cls := "LakeLevels", name := "require", desc := "(Z)V" } : Jvm.MethodName)) ∈ lw_all := lw_g (lw_at lw_m7 65 rfl) rfl
theorem q1607 : (Jvm.Cond.code ({ cls := "LakeLevels", name := "require", desc := "(Z)V" } : Jvm.MethodName) prog_1_method_2_code (1 : Nat) (Option.none : Option Jvm.ClassFile.FieldType)) ∈ lw_all := lw_g (lw_at lw_m7 66 rfl) rfl
theorem q1608 : (Jvm.Cond.classLink "LakeLevels" (1 : Nat) "java/lang/IllegalArgumentException") ∈ lw_all := lw_g (lw_at lw_m7 67 rfl) rfl
theorem q1609 : (Jvm.Cond.stringRef "LakeLevels" (3 : Nat) "argument out of range") ∈ lw_tbl := lw_at lw_m7 68 rfl
theorem q1610 : (Jvm.Cond.methodLink "LakeLevels" (5 : Nat) ({ cls := "java/lang/IllegalArgumentException", name := "<init>", desc := "(Ljava/lang/String;)V" } : Jvm.MethodName)) ∈ lw_all := lw_g (lw_at lw_m7 69 rfl) rfl
theorem q1631 : (Jvm.Cond.instanceMethod ({ cls := "LakeLevels", name := "setHeight", desc := "(II)I" } : Jvm.MethodName)) ∈ lw_all := lw_g (lw_at lw_m7 90 rfl) rfl
theorem q1632 : (Jvm.Cond.selects "LakeLevels" ({ cls := "LakeLevels", name := "setHeight", desc := "(II)I" } : Jvm.MethodName) ({ cls := "LakeLevels", name := "setHeight", desc := "(II)I" } : Jvm.MethodName)) ∈ lw_all := lw_g (lw_at lw_m7 91 rfl) rfl
theorem q1633 : (Jvm.Cond.code ({ cls := "LakeLevels", name := "setHeight", desc := "(II)I" } : Jvm.MethodName) prog_1_method_17_code (4 : Nat) (Option.some Jvm.ClassFile.FieldType.int)) ∈ lw_all := lw_g (lw_at lw_m7 92 rfl) rfl
theorem q1634 : (Jvm.Cond.methodLink "LakeLevels" (96 : Nat) ({ cls := "LakeLevels", name := "requireCell", desc := "(I)V" } : Jvm.MethodName)) ∈ lw_all := lw_g (lw_at lw_m7 93 rfl) rfl
theorem q1635 : (Jvm.Cond.privateMethod ({ cls := "LakeLevels", name := "requireCell", desc := "(I)V" } : Jvm.MethodName)) ∈ lw_tbl := lw_at lw_m7 94 rfl
theorem q1636 : (Jvm.Cond.instanceMethod ({ cls := "LakeLevels", name := "requireCell", desc := "(I)V" } : Jvm.MethodName)) ∈ lw_all := lw_g (lw_at lw_m7 95 rfl) rfl
theorem q1637 : (Jvm.Cond.code ({ cls := "LakeLevels", name := "requireCell", desc := "(I)V" } : Jvm.MethodName) prog_1_method_12_code (2 : Nat) (Option.none : Option Jvm.ClassFile.FieldType)) ∈ lw_all := lw_g (lw_at lw_m7 96 rfl) rfl
theorem q1638 : (Jvm.Cond.methodLink "LakeLevels" (92 : Nat) ({ cls := "LakeLevels", name := "requireIndex", desc := "(Z)V" } : Jvm.MethodName)) ∈ lw_all := lw_g (lw_at lw_m7 97 rfl) rfl
theorem q1639 : (Jvm.Cond.static ({ cls := "LakeLevels", name := "requireIndex", desc := "(Z)V" } : Jvm.MethodName)) ∈ lw_all := lw_g (lw_at lw_m7 98 rfl) rfl
theorem q1640 : (Jvm.Cond.code ({ cls := "LakeLevels", name := "requireIndex", desc := "(Z)V" } : Jvm.MethodName) prog_1_method_3_code (1 : Nat) (Option.none : Option Jvm.ClassFile.FieldType)) ∈ lw_all := lw_g (lw_at lw_m7 99 rfl) rfl
theorem q1641 : (Jvm.Cond.classLink "LakeLevels" (9 : Nat) "java/lang/IndexOutOfBoundsException") ∈ lw_all := lw_g (lw_at lw_m7 100 rfl) rfl
theorem q1642 : (Jvm.Cond.stringRef "LakeLevels" (11 : Nat) "no such index") ∈ lw_tbl := lw_at lw_m7 101 rfl
theorem q1643 : (Jvm.Cond.methodLink "LakeLevels" (13 : Nat) ({ cls := "java/lang/IndexOutOfBoundsException", name := "<init>", desc := "(Ljava/lang/String;)V" } : Jvm.MethodName)) ∈ lw_all := lw_g (lw_at lw_m7 102 rfl) rfl
theorem q1644 : (Jvm.Cond.classLink "LakeLevels" (145 : Nat) "LakeLevels$1") ∈ lw_all := lw_g (lw_at lw_m7 103 rfl) rfl
theorem q1646 : (Jvm.Cond.methodLink "LakeLevels" (147 : Nat) ({ cls := "LakeLevels$1", name := "<init>", desc := "(LLakeLevels;II)V" } : Jvm.MethodName)) ∈ lw_all := lw_g (lw_at lw_m7 105 rfl) rfl
theorem q1660 : (Jvm.Cond.methodLink "LakeLevels" (150 : Nat) ({ cls := "LakeLevels", name := "change", desc := "(LLakeLevels$State;LLakeLevels$Change;)V" } : Jvm.MethodName)) ∈ lw_all := lw_g (lw_at lw_m7 119 rfl) rfl
theorem q1661 : (Jvm.Cond.static ({ cls := "LakeLevels", name := "change", desc := "(LLakeLevels$State;LLakeLevels$Change;)V" } : Jvm.MethodName)) ∈ lw_all := lw_g (lw_at lw_m7 120 rfl) rfl
theorem q1662 : (Jvm.Cond.code ({ cls := "LakeLevels", name := "change", desc := "(LLakeLevels$State;LLakeLevels$Change;)V" } : Jvm.MethodName) prog_1_method_15_code (4 : Nat) (Option.none : Option Jvm.ClassFile.FieldType)) ∈ lw_all := lw_g (lw_at lw_m7 121 rfl) rfl
theorem q1663 : (Jvm.Cond.classLink "LakeLevels" (117 : Nat) "java/util/ArrayList") ∈ lw_all := lw_g (lw_at lw_m7 122 rfl) rfl
theorem q1664 : (Jvm.Cond.methodLink "LakeLevels" (119 : Nat) ({ cls := "java/util/ArrayList", name := "<init>", desc := "(Ljava/util/Collection;)V" } : Jvm.MethodName)) ∈ lw_all := lw_g (lw_at lw_m7 123 rfl) rfl
theorem q1723 : (Jvm.Cond.methodLink "LakeLevels" (122 : Nat) ({ cls := "LakeLevels$State", name := "lowestPlaces", desc := "()[I" } : Jvm.MethodName)) ∈ lw_all := lw_g (lw_at lw_m7 182 rfl) rfl
theorem q1731 : (Jvm.Cond.interfaceEntry "LakeLevels" (126 : Nat)) ∈ lw_tbl := lw_at lw_m7 190 rfl
theorem q1732 : (Jvm.Cond.methodLink "LakeLevels" (126 : Nat) ({ cls := "LakeLevels$Change", name := "make", desc := "(LLakeLevels$Land;)V" } : Jvm.MethodName)) ∈ lw_all := lw_g (lw_at lw_m7 191 rfl) rfl
theorem q1766 : (Jvm.Cond.methodLink "LakeLevels" (131 : Nat) ({ cls := "LakeLevels$State", name := "settle", desc := "(Ljava/util/List;[I)V" } : Jvm.MethodName)) ∈ lw_all := lw_g (lw_at lw_m7 225 rfl) rfl
theorem q1797 : (Jvm.Cond.instanceMethod ({ cls := "LakeLevels", name := "setDrain", desc := "(IZ)Z" } : Jvm.MethodName)) ∈ lw_all := lw_g (lw_at lw_m8 16 rfl) rfl
theorem q1798 : (Jvm.Cond.selects "LakeLevels" ({ cls := "LakeLevels", name := "setDrain", desc := "(IZ)Z" } : Jvm.MethodName) ({ cls := "LakeLevels", name := "setDrain", desc := "(IZ)Z" } : Jvm.MethodName)) ∈ lw_all := lw_g (lw_at lw_m8 17 rfl) rfl
theorem q1799 : (Jvm.Cond.code ({ cls := "LakeLevels", name := "setDrain", desc := "(IZ)Z" } : Jvm.MethodName) prog_1_method_18_code (4 : Nat) (Option.some Jvm.ClassFile.FieldType.boolean)) ∈ lw_all := lw_g (lw_at lw_m8 18 rfl) rfl
theorem q1800 : (Jvm.Cond.methodLink "LakeLevels" (158 : Nat) ({ cls := "LakeLevels", name := "has", desc := "(JI)Z" } : Jvm.MethodName)) ∈ lw_all := lw_g (lw_at lw_m8 19 rfl) rfl
theorem q1801 : (Jvm.Cond.classLink "LakeLevels" (162 : Nat) "LakeLevels$2") ∈ lw_all := lw_g (lw_at lw_m8 20 rfl) rfl
theorem q1803 : (Jvm.Cond.methodLink "LakeLevels" (164 : Nat) ({ cls := "LakeLevels$2", name := "<init>", desc := "(LLakeLevels;ZI)V" } : Jvm.MethodName)) ∈ lw_all := lw_g (lw_at lw_m8 22 rfl) rfl
theorem q1821 : (Jvm.Cond.instanceMethod ({ cls := "LakeLevels", name := "setGate", desc := "(III)I" } : Jvm.MethodName)) ∈ lw_all := lw_g (lw_at lw_m8 40 rfl) rfl
theorem q1822 : (Jvm.Cond.selects "LakeLevels" ({ cls := "LakeLevels", name := "setGate", desc := "(III)I" } : Jvm.MethodName) ({ cls := "LakeLevels", name := "setGate", desc := "(III)I" } : Jvm.MethodName)) ∈ lw_all := lw_g (lw_at lw_m8 41 rfl) rfl
theorem q1823 : (Jvm.Cond.code ({ cls := "LakeLevels", name := "setGate", desc := "(III)I" } : Jvm.MethodName) prog_1_method_19_code (5 : Nat) (Option.some Jvm.ClassFile.FieldType.int)) ∈ lw_all := lw_g (lw_at lw_m8 42 rfl) rfl
theorem q1824 : (Jvm.Cond.methodLink "LakeLevels" (167 : Nat) ({ cls := "LakeLevels", name := "requireNeighbors", desc := "(II)V" } : Jvm.MethodName)) ∈ lw_all := lw_g (lw_at lw_m8 43 rfl) rfl
theorem q1825 : (Jvm.Cond.privateMethod ({ cls := "LakeLevels", name := "requireNeighbors", desc := "(II)V" } : Jvm.MethodName)) ∈ lw_tbl := lw_at lw_m8 44 rfl
theorem q1826 : (Jvm.Cond.instanceMethod ({ cls := "LakeLevels", name := "requireNeighbors", desc := "(II)V" } : Jvm.MethodName)) ∈ lw_all := lw_g (lw_at lw_m8 45 rfl) rfl
theorem q1827 : (Jvm.Cond.code ({ cls := "LakeLevels", name := "requireNeighbors", desc := "(II)V" } : Jvm.MethodName) prog_1_method_13_code (3 : Nat) (Option.none : Option Jvm.ClassFile.FieldType)) ∈ lw_all := lw_g (lw_at lw_m8 46 rfl) rfl
theorem q1828 : (Jvm.Cond.methodLink "LakeLevels" (100 : Nat) ({ cls := "LakeLevels$Land", name := "areNeighbors", desc := "(II)Z" } : Jvm.MethodName)) ∈ lw_all := lw_g (lw_at lw_m8 47 rfl) rfl
theorem q1829 : (Jvm.Cond.methodLink "LakeLevels" (170 : Nat) ({ cls := "LakeLevels$Land", name := "gate", desc := "(II)I" } : Jvm.MethodName)) ∈ lw_all := lw_g (lw_at lw_m8 48 rfl) rfl
theorem q1830 : (Jvm.Cond.classLink "LakeLevels" (174 : Nat) "LakeLevels$GateChange") ∈ lw_all := lw_g (lw_at lw_m8 49 rfl) rfl
theorem q1832 : (Jvm.Cond.methodLink "LakeLevels" (176 : Nat) ({ cls := "LakeLevels$GateChange", name := "<init>", desc := "(III)V" } : Jvm.MethodName)) ∈ lw_all := lw_g (lw_at lw_m8 51 rfl) rfl
theorem q1850 : (Jvm.Cond.instanceMethod ({ cls := "LakeLevels", name := "random", desc := "(II)I" } : Jvm.MethodName)) ∈ lw_all := lw_g (lw_at lw_m8 69 rfl) rfl
theorem q1851 : (Jvm.Cond.selects "LakeLevels" ({ cls := "LakeLevels", name := "random", desc := "(II)I" } : Jvm.MethodName) ({ cls := "LakeLevels", name := "random", desc := "(II)I" } : Jvm.MethodName)) ∈ lw_all := lw_g (lw_at lw_m8 70 rfl) rfl
theorem q1852 : (Jvm.Cond.code ({ cls := "LakeLevels", name := "random", desc := "(II)I" } : Jvm.MethodName) prog_1_method_20_code (3 : Nat) (Option.some Jvm.ClassFile.FieldType.int)) ∈ lw_all := lw_g (lw_at lw_m8 71 rfl) rfl
theorem q1853 : (Jvm.Cond.constant "LakeLevels" (179 : Nat) (999999 : Int32)) ∈ lw_all := lw_g (lw_at lw_m8 72 rfl) rfl
theorem q1854 : (Jvm.Cond.classLink "LakeLevels" (180 : Nat) "LakeLevels$3") ∈ lw_all := lw_g (lw_at lw_m8 73 rfl) rfl
theorem q1856 : (Jvm.Cond.methodLink "LakeLevels" (182 : Nat) ({ cls := "LakeLevels$3", name := "<init>", desc := "(LLakeLevels;II)V" } : Jvm.MethodName)) ∈ lw_all := lw_g (lw_at lw_m8 75 rfl) rfl
theorem q1874 : (Jvm.Cond.instanceMethod ({ cls := "LakeLevels", name := "cell", desc := "(II)I" } : Jvm.MethodName)) ∈ lw_all := lw_g (lw_at lw_m8 93 rfl) rfl
theorem q1875 : (Jvm.Cond.selects "LakeLevels" ({ cls := "LakeLevels", name := "cell", desc := "(II)I" } : Jvm.MethodName) ({ cls := "LakeLevels", name := "cell", desc := "(II)I" } : Jvm.MethodName)) ∈ lw_all := lw_g (lw_at lw_m8 94 rfl) rfl
theorem q1876 : (Jvm.Cond.code ({ cls := "LakeLevels", name := "cell", desc := "(II)I" } : Jvm.MethodName) prog_1_method_21_code (3 : Nat) (Option.some Jvm.ClassFile.FieldType.int)) ∈ lw_all := lw_g (lw_at lw_m8 95 rfl) rfl
theorem q1881 : (Jvm.Cond.instanceMethod ({ cls := "LakeLevels", name := "between", desc := "(IIZ)I" } : Jvm.MethodName)) ∈ lw_all := lw_g (lw_at lw_m8 100 rfl) rfl
theorem q1882 : (Jvm.Cond.selects "LakeLevels" ({ cls := "LakeLevels", name := "between", desc := "(IIZ)I" } : Jvm.MethodName) ({ cls := "LakeLevels", name := "between", desc := "(IIZ)I" } : Jvm.MethodName)) ∈ lw_all := lw_g (lw_at lw_m8 101 rfl) rfl
theorem q1883 : (Jvm.Cond.code ({ cls := "LakeLevels", name := "between", desc := "(IIZ)I" } : Jvm.MethodName) prog_1_method_22_code (4 : Nat) (Option.some Jvm.ClassFile.FieldType.int)) ∈ lw_all := lw_g (lw_at lw_m8 102 rfl) rfl
theorem q1884 : (Jvm.Cond.methodLink "LakeLevels" (190 : Nat) ({ cls := "LakeLevels$Land", name := "threshold", desc := "(II)I" } : Jvm.MethodName)) ∈ lw_all := lw_g (lw_at lw_m8 103 rfl) rfl
theorem q1889 : (Jvm.Cond.instanceMethod ({ cls := "LakeLevels", name := "count", desc := "(I)I" } : Jvm.MethodName)) ∈ lw_all := lw_g (lw_at lw_m8 108 rfl) rfl
theorem q1890 : (Jvm.Cond.selects "LakeLevels" ({ cls := "LakeLevels", name := "count", desc := "(I)I" } : Jvm.MethodName) ({ cls := "LakeLevels", name := "count", desc := "(I)I" } : Jvm.MethodName)) ∈ lw_all := lw_g (lw_at lw_m8 109 rfl) rfl
theorem q1891 : (Jvm.Cond.code ({ cls := "LakeLevels", name := "count", desc := "(I)I" } : Jvm.MethodName) prog_1_method_23_code (2 : Nat) (Option.some Jvm.ClassFile.FieldType.int)) ∈ lw_all := lw_g (lw_at lw_m8 110 rfl) rfl
theorem q1897 : (Jvm.Cond.instanceMethod ({ cls := "LakeLevels", name := "pour", desc := "(II)I" } : Jvm.MethodName)) ∈ lw_all := lw_g (lw_at lw_m8 116 rfl) rfl
theorem q1898 : (Jvm.Cond.selects "LakeLevels" ({ cls := "LakeLevels", name := "pour", desc := "(II)I" } : Jvm.MethodName) ({ cls := "LakeLevels", name := "pour", desc := "(II)I" } : Jvm.MethodName)) ∈ lw_all := lw_g (lw_at lw_m8 117 rfl) rfl
theorem q1899 : (Jvm.Cond.code ({ cls := "LakeLevels", name := "pour", desc := "(II)I" } : Jvm.MethodName) prog_1_method_24_code (5 : Nat) (Option.some Jvm.ClassFile.FieldType.int)) ∈ lw_all := lw_g (lw_at lw_m8 118 rfl) rfl
theorem q1900 : (Jvm.Cond.constant "LakeLevels" (197 : Nat) (100000 : Int32)) ∈ lw_all := lw_g (lw_at lw_m8 119 rfl) rfl
theorem q1901 : (Jvm.Cond.methodLink "LakeLevels" (198 : Nat) ({ cls := "LakeLevels$State", name := "water", desc := "()J" } : Jvm.MethodName)) ∈ lw_all := lw_g (lw_at lw_m8 120 rfl) rfl
theorem q1902 : (Jvm.Cond.constantLong "LakeLevels" (202 : Nat) (1000000 : Int64)) ∈ lw_all := lw_g (lw_at lw_m8 121 rfl) rfl
theorem q1903 : (Jvm.Cond.methodLink "LakeLevels" (204 : Nat) ({ cls := "LakeLevels", name := "requireState", desc := "(Z)V" } : Jvm.MethodName)) ∈ lw_all := lw_g (lw_at lw_m8 122 rfl) rfl
theorem q1904 : (Jvm.Cond.static ({ cls := "LakeLevels", name := "requireState", desc := "(Z)V" } : Jvm.MethodName)) ∈ lw_all := lw_g (lw_at lw_m8 123 rfl) rfl
theorem q1905 : (Jvm.Cond.code ({ cls := "LakeLevels", name := "requireState", desc := "(Z)V" } : Jvm.MethodName) prog_1_method_4_code (1 : Nat) (Option.none : Option Jvm.ClassFile.FieldType)) ∈ lw_all := lw_g (lw_at lw_m8 124 rfl) rfl
theorem q1906 : (Jvm.Cond.classLink "LakeLevels" (14 : Nat) "java/lang/IllegalStateException") ∈ lw_all := lw_g (lw_at lw_m8 125 rfl) rfl
theorem q1907 : (Jvm.Cond.stringRef "LakeLevels" (16 : Nat) "not possible now") ∈ lw_tbl := lw_at lw_m8 126 rfl
theorem q1908 : (Jvm.Cond.methodLink "LakeLevels" (18 : Nat) ({ cls := "java/lang/IllegalStateException", name := "<init>", desc := "(Ljava/lang/String;)V" } : Jvm.MethodName)) ∈ lw_all := lw_g (lw_at lw_m8 127 rfl) rfl
theorem q1909 : (Jvm.Cond.methodLink "LakeLevels" (210 : Nat) ({ cls := "LakeLevels$State", name := "pour", desc := "(II)V" } : Jvm.MethodName)) ∈ lw_all := lw_g (lw_at lw_m8 128 rfl) rfl
theorem q1914 : (Jvm.Cond.instanceMethod ({ cls := "LakeLevels", name := "rain", desc := "(I)I" } : Jvm.MethodName)) ∈ lw_all := lw_g (lw_at lw_m8 133 rfl) rfl
theorem q1915 : (Jvm.Cond.selects "LakeLevels" ({ cls := "LakeLevels", name := "rain", desc := "(I)I" } : Jvm.MethodName) ({ cls := "LakeLevels", name := "rain", desc := "(I)I" } : Jvm.MethodName)) ∈ lw_all := lw_g (lw_at lw_m8 134 rfl) rfl
theorem q1916 : (Jvm.Cond.code ({ cls := "LakeLevels", name := "rain", desc := "(I)I" } : Jvm.MethodName) prog_1_method_25_code (5 : Nat) (Option.some Jvm.ClassFile.FieldType.int)) ∈ lw_all := lw_g (lw_at lw_m8 135 rfl) rfl
theorem q1921 : (Jvm.Cond.instanceMethod ({ cls := "LakeLevels", name := "evaporate", desc := "(I)I" } : Jvm.MethodName)) ∈ lw_all := lw_g (lw_at lw_m8 140 rfl) rfl
theorem q1922 : (Jvm.Cond.selects "LakeLevels" ({ cls := "LakeLevels", name := "evaporate", desc := "(I)I" } : Jvm.MethodName) ({ cls := "LakeLevels", name := "evaporate", desc := "(I)I" } : Jvm.MethodName)) ∈ lw_all := lw_g (lw_at lw_m8 141 rfl) rfl
theorem q1923 : (Jvm.Cond.code ({ cls := "LakeLevels", name := "evaporate", desc := "(I)I" } : Jvm.MethodName) prog_1_method_26_code (2 : Nat) (Option.some Jvm.ClassFile.FieldType.int)) ∈ lw_all := lw_g (lw_at lw_m8 142 rfl) rfl
theorem q1924 : (Jvm.Cond.methodLink "LakeLevels" (219 : Nat) ({ cls := "LakeLevels$State", name := "evaporate", desc := "(I)J" } : Jvm.MethodName)) ∈ lw_all := lw_g (lw_at lw_m8 143 rfl) rfl
theorem q1944 : (Jvm.Cond.instanceMethod ({ cls := "LakeLevels", name := "take", desc := "(II)I" } : Jvm.MethodName)) ∈ lw_all := lw_g (lw_at lw_m8 163 rfl) rfl
theorem q1945 : (Jvm.Cond.selects "LakeLevels" ({ cls := "LakeLevels", name := "take", desc := "(II)I" } : Jvm.MethodName) ({ cls := "LakeLevels", name := "take", desc := "(II)I" } : Jvm.MethodName)) ∈ lw_all := lw_g (lw_at lw_m8 164 rfl) rfl
theorem q1946 : (Jvm.Cond.code ({ cls := "LakeLevels", name := "take", desc := "(II)I" } : Jvm.MethodName) prog_1_method_27_code (4 : Nat) (Option.some Jvm.ClassFile.FieldType.int)) ∈ lw_all := lw_g (lw_at lw_m8 165 rfl) rfl
theorem q1947 : (Jvm.Cond.methodLink "LakeLevels" (223 : Nat) ({ cls := "LakeLevels", name := "at", desc := "(I)LLakeLevels$Lake;" } : Jvm.MethodName)) ∈ lw_all := lw_g (lw_at lw_m8 166 rfl) rfl
theorem q1948 : (Jvm.Cond.privateMethod ({ cls := "LakeLevels", name := "at", desc := "(I)LLakeLevels$Lake;" } : Jvm.MethodName)) ∈ lw_tbl := lw_at lw_m8 167 rfl
theorem q1949 : (Jvm.Cond.instanceMethod ({ cls := "LakeLevels", name := "at", desc := "(I)LLakeLevels$Lake;" } : Jvm.MethodName)) ∈ lw_all := lw_g (lw_at lw_m8 168 rfl) rfl
theorem q1950 : (Jvm.Cond.code ({ cls := "LakeLevels", name := "at", desc := "(I)LLakeLevels$Lake;" } : Jvm.MethodName) prog_1_method_14_code (2 : Nat) (Option.some (Jvm.ClassFile.FieldType.object "LakeLevels$Lake"))) ∈ lw_all := lw_g (lw_at lw_m8 169 rfl) rfl
theorem q1951 : (Jvm.Cond.methodLink "LakeLevels" (111 : Nat) ({ cls := "java/util/LinkedList", name := "get", desc := "(I)Ljava/lang/Object;" } : Jvm.MethodName)) ∈ lw_all := lw_g (lw_at lw_m8 170 rfl) rfl
theorem q1952 : (Jvm.Cond.methodLink "LakeLevels" (230 : Nat) ({ cls := "LakeLevels$State", name := "take", desc := "(LLakeLevels$Lake;I)V" } : Jvm.MethodName)) ∈ lw_all := lw_g (lw_at lw_m8 171 rfl) rfl
theorem q1957 : (Jvm.Cond.instanceMethod ({ cls := "LakeLevels", name := "balance", desc := "(I)J" } : Jvm.MethodName)) ∈ lw_all := lw_g (lw_at lw_m8 176 rfl) rfl
theorem q1958 : (Jvm.Cond.selects "LakeLevels" ({ cls := "LakeLevels", name := "balance", desc := "(I)J" } : Jvm.MethodName) ({ cls := "LakeLevels", name := "balance", desc := "(I)J" } : Jvm.MethodName)) ∈ lw_all := lw_g (lw_at lw_m8 177 rfl) rfl
theorem q1959 : (Jvm.Cond.code ({ cls := "LakeLevels", name := "balance", desc := "(I)J" } : Jvm.MethodName) prog_1_method_28_code (2 : Nat) (Option.some Jvm.ClassFile.FieldType.long)) ∈ lw_all := lw_g (lw_at lw_m8 178 rfl) rfl
theorem q1964 : (Jvm.Cond.instanceMethod ({ cls := "LakeLevels", name := "lake", desc := "(II)I" } : Jvm.MethodName)) ∈ lw_all := lw_g (lw_at lw_m8 183 rfl) rfl
theorem q1965 : (Jvm.Cond.selects "LakeLevels" ({ cls := "LakeLevels", name := "lake", desc := "(II)I" } : Jvm.MethodName) ({ cls := "LakeLevels", name := "lake", desc := "(II)I" } : Jvm.MethodName)) ∈ lw_all := lw_g (lw_at lw_m8 184 rfl) rfl
theorem q1966 : (Jvm.Cond.code ({ cls := "LakeLevels", name := "lake", desc := "(II)I" } : Jvm.MethodName) prog_1_method_29_code (4 : Nat) (Option.some Jvm.ClassFile.FieldType.int)) ∈ lw_all := lw_g (lw_at lw_m8 185 rfl) rfl
theorem q1971 : (Jvm.Cond.instanceMethod ({ cls := "LakeLevels", name := "lakeCells", desc := "(I)J" } : Jvm.MethodName)) ∈ lw_all := lw_g (lw_at lw_m8 190 rfl) rfl
theorem q1972 : (Jvm.Cond.selects "LakeLevels" ({ cls := "LakeLevels", name := "lakeCells", desc := "(I)J" } : Jvm.MethodName) ({ cls := "LakeLevels", name := "lakeCells", desc := "(I)J" } : Jvm.MethodName)) ∈ lw_all := lw_g (lw_at lw_m8 191 rfl) rfl
theorem q1973 : (Jvm.Cond.code ({ cls := "LakeLevels", name := "lakeCells", desc := "(I)J" } : Jvm.MethodName) prog_1_method_30_code (2 : Nat) (Option.some Jvm.ClassFile.FieldType.long)) ∈ lw_all := lw_g (lw_at lw_m8 192 rfl) rfl
theorem q1978 : (Jvm.Cond.instanceMethod ({ cls := "LakeLevels", name := "level", desc := "(II)I" } : Jvm.MethodName)) ∈ lw_all := lw_g (lw_at lw_m8 197 rfl) rfl
theorem q1979 : (Jvm.Cond.selects "LakeLevels" ({ cls := "LakeLevels", name := "level", desc := "(II)I" } : Jvm.MethodName) ({ cls := "LakeLevels", name := "level", desc := "(II)I" } : Jvm.MethodName)) ∈ lw_all := lw_g (lw_at lw_m8 198 rfl) rfl
theorem q1980 : (Jvm.Cond.code ({ cls := "LakeLevels", name := "level", desc := "(II)I" } : Jvm.MethodName) prog_1_method_31_code (4 : Nat) (Option.some Jvm.ClassFile.FieldType.int)) ∈ lw_all := lw_g (lw_at lw_m8 199 rfl) rfl
theorem q1985 : (Jvm.Cond.instanceMethod ({ cls := "LakeLevels", name := "depth", desc := "(I)D" } : Jvm.MethodName)) ∈ lw_all := lw_g (lw_at lw_m8 204 rfl) rfl
theorem q1986 : (Jvm.Cond.selects "LakeLevels" ({ cls := "LakeLevels", name := "depth", desc := "(I)D" } : Jvm.MethodName) ({ cls := "LakeLevels", name := "depth", desc := "(I)D" } : Jvm.MethodName)) ∈ lw_all := lw_g (lw_at lw_m8 205 rfl) rfl
theorem q1987 : (Jvm.Cond.code ({ cls := "LakeLevels", name := "depth", desc := "(I)D" } : Jvm.MethodName) prog_1_method_33_code (3 : Nat) (Option.some Jvm.ClassFile.FieldType.double)) ∈ lw_all := lw_g (lw_at lw_m8 206 rfl) rfl
theorem q1992 : (Jvm.Cond.instanceMethod ({ cls := "LakeLevels", name := "course", desc := "(I)J" } : Jvm.MethodName)) ∈ lw_all := lw_g (lw_at lw_m8 211 rfl) rfl
theorem q1993 : (Jvm.Cond.selects "LakeLevels" ({ cls := "LakeLevels", name := "course", desc := "(I)J" } : Jvm.MethodName) ({ cls := "LakeLevels", name := "course", desc := "(I)J" } : Jvm.MethodName)) ∈ lw_all := lw_g (lw_at lw_m8 212 rfl) rfl
theorem q1994 : (Jvm.Cond.code ({ cls := "LakeLevels", name := "course", desc := "(I)J" } : Jvm.MethodName) prog_1_method_35_code (2 : Nat) (Option.some Jvm.ClassFile.FieldType.long)) ∈ lw_all := lw_g (lw_at lw_m8 213 rfl) rfl
theorem q1995 : (Jvm.Cond.methodLink "LakeLevels" (262 : Nat) ({ cls := "LakeLevels$Land", name := "course", desc := "(I)J" } : Jvm.MethodName)) ∈ lw_all := lw_g (lw_at lw_m8 214 rfl) rfl
theorem q2003 : (Jvm.Cond.instanceMethod ({ cls := "LakeLevels", name := "amountFor", desc := "(II)I" } : Jvm.MethodName)) ∈ lw_all := lw_g (lw_at lw_m8 222 rfl) rfl
theorem q2004 : (Jvm.Cond.selects "LakeLevels" ({ cls := "LakeLevels", name := "amountFor", desc := "(II)I" } : Jvm.MethodName) ({ cls := "LakeLevels", name := "amountFor", desc := "(II)I" } : Jvm.MethodName)) ∈ lw_all := lw_g (lw_at lw_m8 223 rfl) rfl
theorem q2005 : (Jvm.Cond.code ({ cls := "LakeLevels", name := "amountFor", desc := "(II)I" } : Jvm.MethodName) prog_1_method_37_code (6 : Nat) (Option.some Jvm.ClassFile.FieldType.int)) ∈ lw_all := lw_g (lw_at lw_m8 224 rfl) rfl
theorem q2006 : (Jvm.Cond.constant "LakeLevels" (265 : Nat) (100001 : Int32)) ∈ lw_all := lw_g (lw_at lw_m8 225 rfl) rfl
theorem q2007 : (Jvm.Cond.methodLink "LakeLevels" (266 : Nat) ({ cls := "LakeLevels", name := "wouldBeWet", desc := "(III)Z" } : Jvm.MethodName)) ∈ lw_all := lw_g (lw_at lw_m8 226 rfl) rfl
theorem q2008 : (Jvm.Cond.privateMethod ({ cls := "LakeLevels", name := "wouldBeWet", desc := "(III)Z" } : Jvm.MethodName)) ∈ lw_tbl := lw_at lw_m8 227 rfl
theorem q2009 : (Jvm.Cond.instanceMethod ({ cls := "LakeLevels", name := "wouldBeWet", desc := "(III)Z" } : Jvm.MethodName)) ∈ lw_all := lw_g (lw_at lw_m8 228 rfl) rfl
theorem q2010 : (Jvm.Cond.code ({ cls := "LakeLevels", name := "wouldBeWet", desc := "(III)Z" } : Jvm.MethodName) prog_1_method_36_code (5 : Nat) (Option.some Jvm.ClassFile.FieldType.boolean)) ∈ lw_all := lw_g (lw_at lw_m8 229 rfl) rfl
theorem q2015 : (Jvm.Cond.instanceMethod ({ cls := "LakeLevels", name := "withoutGate", desc := "(II)I" } : Jvm.MethodName)) ∈ lw_all := lw_g (lw_at lw_m8 234 rfl) rfl
theorem q2016 : (Jvm.Cond.selects "LakeLevels" ({ cls := "LakeLevels", name := "withoutGate", desc := "(II)I" } : Jvm.MethodName) ({ cls := "LakeLevels", name := "withoutGate", desc := "(II)I" } : Jvm.MethodName)) ∈ lw_all := lw_g (lw_at lw_m8 235 rfl) rfl
theorem q2017 : (Jvm.Cond.code ({ cls := "LakeLevels", name := "withoutGate", desc := "(II)I" } : Jvm.MethodName) prog_1_method_40_code (4 : Nat) (Option.some Jvm.ClassFile.FieldType.int)) ∈ lw_all := lw_g (lw_at lw_m8 236 rfl) rfl
theorem q2018 : (Jvm.Cond.methodLink "LakeLevels" (272 : Nat) ({ cls := "LakeLevels$State", name := "wetCells", desc := "()I" } : Jvm.MethodName)) ∈ lw_all := lw_g (lw_at lw_m8 237 rfl) rfl
theorem q2023 : (Jvm.Cond.instanceMethod ({ cls := "LakeLevels", name := "append", desc := "(I)I" } : Jvm.MethodName)) ∈ lw_all := lw_g (lw_at lw_m9 2 rfl) rfl
theorem q2024 : (Jvm.Cond.selects "LakeLevels" ({ cls := "LakeLevels", name := "append", desc := "(I)I" } : Jvm.MethodName) ({ cls := "LakeLevels", name := "append", desc := "(I)I" } : Jvm.MethodName)) ∈ lw_all := lw_g (lw_at lw_m9 3 rfl) rfl
theorem q2025 : (Jvm.Cond.code ({ cls := "LakeLevels", name := "append", desc := "(I)I" } : Jvm.MethodName) prog_1_method_41_code (2 : Nat) (Option.some Jvm.ClassFile.FieldType.int)) ∈ lw_all := lw_g (lw_at lw_m9 4 rfl) rfl
theorem q2030 : (Jvm.Cond.instanceMethod ({ cls := "LakeLevels", name := "undo", desc := "()I" } : Jvm.MethodName)) ∈ lw_all := lw_g (lw_at lw_m9 9 rfl) rfl
theorem q2031 : (Jvm.Cond.selects "LakeLevels" ({ cls := "LakeLevels", name := "undo", desc := "()I" } : Jvm.MethodName) ({ cls := "LakeLevels", name := "undo", desc := "()I" } : Jvm.MethodName)) ∈ lw_all := lw_g (lw_at lw_m9 10 rfl) rfl
theorem q2032 : (Jvm.Cond.code ({ cls := "LakeLevels", name := "undo", desc := "()I" } : Jvm.MethodName) prog_1_method_44_code (1 : Nat) (Option.some Jvm.ClassFile.FieldType.int)) ∈ lw_all := lw_g (lw_at lw_m9 11 rfl) rfl
theorem q2033 : (Jvm.Cond.methodLink "LakeLevels" (291 : Nat) ({ cls := "java/util/ArrayDeque", name := "isEmpty", desc := "()Z" } : Jvm.MethodName)) ∈ lw_all := lw_g (lw_at lw_m9 12 rfl) rfl
theorem q2034 : (Jvm.Cond.methodLink "LakeLevels" (295 : Nat) ({ cls := "java/util/ArrayDeque", name := "removeLast", desc := "()Ljava/lang/Object;" } : Jvm.MethodName)) ∈ lw_all := lw_g (lw_at lw_m9 13 rfl) rfl
theorem q2524 : (Jvm.Cond.castable "LakeLevels" "java/lang/Object") ∈ lw_tbl := lw_at lw_m11 23 rfl
theorem in_X1 : ∀ w ∈ wsX10, w ∈ lw_all := lw_in wsX10 [964, 966, 968, 970] (by decide +kernel) (by decide +kernel)

/-! LakeLevels$1 -/
set_option maxRecDepth 100000
def RX6 : String := "LakeLevels$1"
def TX6 : u_T := fun k => match k with
  | 0 => ("LakeLevels$1", "val$cell", "I", true)
  | 1 => ("LakeLevels$1", "val$height", "I", true)
  | _ => ("LakeLevels$1", "this$0", "LLakeLevels;", true)
def tyX6 : Nat → FieldType := fun k => match k with
  | 0 => .int
  | 1 => .int
  | _ => .object "LakeLevels"
abbrev wsX60 : List Cond := u_ws RX6 TX6 3
theorem nmX6 : ∀ a, a < 3 → ∀ b, b < 3 → a ≠ b → (TX6 a).2.1 ≠ (TX6 b).2.1 := by decide +kernel
theorem tyX6_ok : ∀ k, k < 3 → parseFieldDescriptor (TX6 k).2.2.1 = some (tyX6 k) := by decide +kernel
abbrev cX6_init : ByteArray := prog_2_method_1_code
def yX6_init : MethodName := ⟨RX6, "<init>", "(LLakeLevels;II)V"⟩
def dkwX6_init_0 : List UInt8 := [42, 43, 181, 0, 1, 42, 28, 181, 0, 7, 42, 29, 181, 0, 11, 42, 183, 0, 14, 177]
abbrev dktX6_init_0 : List UInt8 := dkwX6_init_0 ++ []
theorem dksX6_init_0 : cX6_init.data.toList.drop 0 = dktX6_init_0 := by decide +kernel
theorem dX6_init_0 : decode cX6_init 0 = .ok (.aload_n 0, 1) := dk_42 (dk_at dksX6_init_0 0 rfl rfl)
theorem dX6_init_1 : decode cX6_init 1 = .ok (.aload_n 1, 1) := dk_43 (dk_at dksX6_init_0 1 rfl rfl)
theorem dX6_init_2 : decode cX6_init 2 = .ok (.putfield 1, 3) := dk_181 0 1 (dk_at dksX6_init_0 2 rfl rfl)
theorem dX6_init_5 : decode cX6_init 5 = .ok (.aload_n 0, 1) := dk_42 (dk_at dksX6_init_0 5 rfl rfl)
theorem dX6_init_6 : decode cX6_init 6 = .ok (.iload_n 2, 1) := dk_28 (dk_at dksX6_init_0 6 rfl rfl)
theorem dX6_init_7 : decode cX6_init 7 = .ok (.putfield 7, 3) := dk_181 0 7 (dk_at dksX6_init_0 7 rfl rfl)
theorem dX6_init_10 : decode cX6_init 10 = .ok (.aload_n 0, 1) := dk_42 (dk_at dksX6_init_0 10 rfl rfl)
theorem dX6_init_11 : decode cX6_init 11 = .ok (.iload_n 3, 1) := dk_29 (dk_at dksX6_init_0 11 rfl rfl)
theorem dX6_init_12 : decode cX6_init 12 = .ok (.putfield 11, 3) := dk_181 0 11 (dk_at dksX6_init_0 12 rfl rfl)
theorem dX6_init_15 : decode cX6_init 15 = .ok (.aload_n 0, 1) := dk_42 (dk_at dksX6_init_0 15 rfl rfl)
theorem dX6_init_16 : decode cX6_init 16 = .ok (.invokespecial 14, 3) := dk_183 0 14 (dk_at dksX6_init_0 16 rfl rfl)
theorem dX6_init_19 : decode cX6_init 19 = .ok (.return_, 1) := dk_177 (dk_at dksX6_init_0 19 rfl rfl)
abbrev cX6_make : ByteArray := prog_2_method_2_code
def yX6_make : MethodName := ⟨RX6, "make", "(LLakeLevels$Land;)V"⟩
def dkwX6_make_0 : List UInt8 := [43, 180, 0, 20, 42, 180, 0, 7, 42, 180, 0, 11, 79, 177]
abbrev dktX6_make_0 : List UInt8 := dkwX6_make_0 ++ []
theorem dksX6_make_0 : cX6_make.data.toList.drop 0 = dktX6_make_0 := by decide +kernel
theorem dX6_make_0 : decode cX6_make 0 = .ok (.aload_n 1, 1) := dk_43 (dk_at dksX6_make_0 0 rfl rfl)
theorem dX6_make_1 : decode cX6_make 1 = .ok (.getfield 20, 3) := dk_180 0 20 (dk_at dksX6_make_0 1 rfl rfl)
theorem dX6_make_4 : decode cX6_make 4 = .ok (.aload_n 0, 1) := dk_42 (dk_at dksX6_make_0 4 rfl rfl)
theorem dX6_make_5 : decode cX6_make 5 = .ok (.getfield 7, 3) := dk_180 0 7 (dk_at dksX6_make_0 5 rfl rfl)
theorem dX6_make_8 : decode cX6_make 8 = .ok (.aload_n 0, 1) := dk_42 (dk_at dksX6_make_0 8 rfl rfl)
theorem dX6_make_9 : decode cX6_make 9 = .ok (.getfield 11, 3) := dk_180 0 11 (dk_at dksX6_make_0 9 rfl rfl)
theorem dX6_make_12 : decode cX6_make 12 = .ok (.iastore, 1) := dk_79 (dk_at dksX6_make_0 12 rfl rfl)
theorem dX6_make_13 : decode cX6_make 13 = .ok (.return_, 1) := dk_177 (dk_at dksX6_make_0 13 rfl rfl)
theorem q134 : (Jvm.Cond.initialized "LakeLevels$1") ∈ lw_all := lw_g (lw_at lw_m1 33 rfl) rfl
theorem q171 : (Jvm.Cond.fieldLinkNest "LakeLevels$1" (20 : Nat) "LakeLevels$Land" "heights" "[I" "LakeLevels") ∈ lw_tbl := lw_at lw_m1 70 rfl
theorem q442 : (Jvm.Cond.selects "LakeLevels$1" ({ cls := "java/lang/Object", name := "getClass", desc := "()Ljava/lang/Class;" } : Jvm.MethodName) ({ cls := "java/lang/Object", name := "getClass", desc := "()Ljava/lang/Class;" } : Jvm.MethodName)) ∈ lw_all := lw_g (lw_at lw_m2 101 rfl) rfl
theorem q1532 : (Jvm.Cond.selects "LakeLevels$1" ({ cls := "java/lang/Object", name := "equals", desc := "(Ljava/lang/Object;)Z" } : Jvm.MethodName) ({ cls := "java/lang/Object", name := "equals", desc := "(Ljava/lang/Object;)Z" } : Jvm.MethodName)) ∈ lw_all := lw_g (lw_at lw_m6 231 rfl) rfl
theorem q1645 : (Jvm.Cond.instantiable "LakeLevels$1" (3 : Nat)) ∈ lw_all := lw_g (lw_at lw_m7 104 rfl) rfl
theorem q1647 : (Jvm.Cond.instanceMethod ({ cls := "LakeLevels$1", name := "<init>", desc := "(LLakeLevels;II)V" } : Jvm.MethodName)) ∈ lw_all := lw_g (lw_at lw_m7 106 rfl) rfl
theorem q1648 : (Jvm.Cond.code ({ cls := "LakeLevels$1", name := "<init>", desc := "(LLakeLevels;II)V" } : Jvm.MethodName) prog_2_method_1_code (4 : Nat) (Option.none : Option Jvm.ClassFile.FieldType)) ∈ lw_all := lw_g (lw_at lw_m7 107 rfl) rfl
theorem q1649 : (Jvm.Cond.methodLink "LakeLevels$1" (14 : Nat) ({ cls := "java/lang/Object", name := "<init>", desc := "()V" } : Jvm.MethodName)) ∈ lw_all := lw_g (lw_at lw_m7 108 rfl) rfl
theorem q1650 : (Jvm.Cond.fieldLink "LakeLevels$1" (7 : Nat) "LakeLevels$1" "val$cell" "I") ∈ lw_all := lw_g (lw_at lw_m7 109 rfl) rfl
theorem q1651 : (Jvm.Cond.fieldLink "LakeLevels$1" (11 : Nat) "LakeLevels$1" "val$height" "I") ∈ lw_all := lw_g (lw_at lw_m7 110 rfl) rfl
theorem q1652 : (Jvm.Cond.fieldLink "LakeLevels$1" (1 : Nat) "LakeLevels$1" "this$0" "LLakeLevels;") ∈ lw_all := lw_g (lw_at lw_m7 111 rfl) rfl
theorem q1653 : (Jvm.Cond.laysFinal "LakeLevels$1" "LakeLevels$1" "val$cell" "I") ∈ lw_all := lw_g (lw_at lw_m7 112 rfl) rfl
theorem q1654 : (Jvm.Cond.soleField "LakeLevels$1" "val$cell") ∈ lw_all := lw_g (lw_at lw_m7 113 rfl) rfl
theorem q1655 : (Jvm.Cond.laysFinal "LakeLevels$1" "LakeLevels$1" "val$height" "I") ∈ lw_all := lw_g (lw_at lw_m7 114 rfl) rfl
theorem q1656 : (Jvm.Cond.soleField "LakeLevels$1" "val$height") ∈ lw_all := lw_g (lw_at lw_m7 115 rfl) rfl
theorem q1657 : (Jvm.Cond.laysFinal "LakeLevels$1" "LakeLevels$1" "this$0" "LLakeLevels;") ∈ lw_all := lw_g (lw_at lw_m7 116 rfl) rfl
theorem q1658 : (Jvm.Cond.soleField "LakeLevels$1" "this$0") ∈ lw_all := lw_g (lw_at lw_m7 117 rfl) rfl
theorem q1659 : (Jvm.Cond.superclass "LakeLevels$1" "java/lang/Object") ∈ lw_all := lw_g (lw_at lw_m7 118 rfl) rfl
theorem q1735 : (Jvm.Cond.castable "LakeLevels$1" "LakeLevels$Change") ∈ lw_tbl := lw_at lw_m7 194 rfl
theorem q1736 : (Jvm.Cond.selects "LakeLevels$1" ({ cls := "LakeLevels$Change", name := "make", desc := "(LLakeLevels$Land;)V" } : Jvm.MethodName) ({ cls := "LakeLevels$1", name := "make", desc := "(LLakeLevels$Land;)V" } : Jvm.MethodName)) ∈ lw_all := lw_g (lw_at lw_m7 195 rfl) rfl
theorem q1737 : (Jvm.Cond.unhidden "LakeLevels$1" "make" "(LLakeLevels$Land;)V") ∈ lw_tbl := lw_at lw_m7 196 rfl
theorem q1738 : (Jvm.Cond.instanceMethod ({ cls := "LakeLevels$1", name := "make", desc := "(LLakeLevels$Land;)V" } : Jvm.MethodName)) ∈ lw_all := lw_g (lw_at lw_m7 197 rfl) rfl
theorem q1739 : (Jvm.Cond.publicMethod ({ cls := "LakeLevels$1", name := "make", desc := "(LLakeLevels$Land;)V" } : Jvm.MethodName)) ∈ lw_tbl := lw_at lw_m7 198 rfl
theorem q1740 : (Jvm.Cond.code ({ cls := "LakeLevels$1", name := "make", desc := "(LLakeLevels$Land;)V" } : Jvm.MethodName) prog_2_method_2_code (2 : Nat) (Option.none : Option Jvm.ClassFile.FieldType)) ∈ lw_all := lw_g (lw_at lw_m7 199 rfl) rfl
theorem q2538 : (Jvm.Cond.castable "LakeLevels$1" "java/lang/Object") ∈ lw_tbl := lw_at lw_m11 37 rfl
theorem in_X6 : ∀ w ∈ wsX60, w ∈ lw_all := lw_in wsX60 [1653, 1655, 1657] (by decide +kernel) (by decide +kernel)

/-! LakeLevels$2 -/
set_option maxRecDepth 100000
def RX7 : String := "LakeLevels$2"
def TX7 : u_T := fun k => match k with
  | 0 => ("LakeLevels$2", "val$drain", "Z", true)
  | 1 => ("LakeLevels$2", "val$cell", "I", true)
  | _ => ("LakeLevels$2", "this$0", "LLakeLevels;", true)
def tyX7 : Nat → FieldType := fun k => match k with
  | 0 => .boolean
  | 1 => .int
  | _ => .object "LakeLevels"
abbrev wsX70 : List Cond := u_ws RX7 TX7 3
theorem nmX7 : ∀ a, a < 3 → ∀ b, b < 3 → a ≠ b → (TX7 a).2.1 ≠ (TX7 b).2.1 := by decide +kernel
theorem tyX7_ok : ∀ k, k < 3 → parseFieldDescriptor (TX7 k).2.2.1 = some (tyX7 k) := by decide +kernel
abbrev cX7_make : ByteArray := prog_3_method_2_code
def yX7_make : MethodName := ⟨RX7, "make", "(LLakeLevels$Land;)V"⟩
def dkwX7_make_1 : List UInt8 := [180, 0, 21, 10, 42, 180, 0, 11, 121, 20, 0, 27, 131, 127, 181, 0, 21, 177]
abbrev dktX7_make_1 : List UInt8 := dkwX7_make_1 ++ []
def dkwX7_make_0 : List UInt8 := [43, 42, 180, 0, 7, 153, 0, 17, 43, 180, 0, 21, 10, 42, 180, 0, 11, 121, 129, 167, 0, 18, 43]
abbrev dktX7_make_0 : List UInt8 := dkwX7_make_0 ++ dktX7_make_1
theorem dksX7_make_0 : cX7_make.data.toList.drop 0 = dktX7_make_0 := by decide +kernel
theorem dksX7_make_1 : cX7_make.data.toList.drop 23 = dktX7_make_1 := dk_seg dksX7_make_0 23 rfl rfl
theorem dX7_make_0 : decode cX7_make 0 = .ok (.aload_n 1, 1) := dk_43 (dk_at dksX7_make_0 0 rfl rfl)
theorem dX7_make_1 : decode cX7_make 1 = .ok (.aload_n 0, 1) := dk_42 (dk_at dksX7_make_0 1 rfl rfl)
theorem dX7_make_2 : decode cX7_make 2 = .ok (.getfield 7, 3) := dk_180 0 7 (dk_at dksX7_make_0 2 rfl rfl)
theorem dX7_make_5 : decode cX7_make 5 = .ok (.ifCond .eq 17, 3) := dk_153 0 17 (dk_at dksX7_make_0 5 rfl rfl)
theorem dX7_make_8 : decode cX7_make 8 = .ok (.aload_n 1, 1) := dk_43 (dk_at dksX7_make_0 8 rfl rfl)
theorem dX7_make_9 : decode cX7_make 9 = .ok (.getfield 21, 3) := dk_180 0 21 (dk_at dksX7_make_0 9 rfl rfl)
theorem dX7_make_12 : decode cX7_make 12 = .ok (.lconst 1, 1) := dk_10 (dk_at dksX7_make_0 12 rfl rfl)
theorem dX7_make_13 : decode cX7_make 13 = .ok (.aload_n 0, 1) := dk_42 (dk_at dksX7_make_0 13 rfl rfl)
theorem dX7_make_14 : decode cX7_make 14 = .ok (.getfield 11, 3) := dk_180 0 11 (dk_at dksX7_make_0 14 rfl rfl)
theorem dX7_make_17 : decode cX7_make 17 = .ok (.lshl, 1) := dk_121 (dk_at dksX7_make_0 17 rfl rfl)
theorem dX7_make_18 : decode cX7_make 18 = .ok (.lor, 1) := dk_129 (dk_at dksX7_make_0 18 rfl rfl)
theorem dX7_make_19 : decode cX7_make 19 = .ok (.goto 18, 3) := dk_167 0 18 (dk_at dksX7_make_0 19 rfl rfl)
theorem dX7_make_22 : decode cX7_make 22 = .ok (.aload_n 1, 1) := dk_43 (dk_at dksX7_make_0 22 rfl rfl)
theorem dX7_make_23 : decode cX7_make 23 = .ok (.getfield 21, 3) := dk_180 0 21 (dk_at dksX7_make_1 0 rfl rfl)
theorem dX7_make_26 : decode cX7_make 26 = .ok (.lconst 1, 1) := dk_10 (dk_at dksX7_make_1 3 rfl rfl)
theorem dX7_make_27 : decode cX7_make 27 = .ok (.aload_n 0, 1) := dk_42 (dk_at dksX7_make_1 4 rfl rfl)
theorem dX7_make_28 : decode cX7_make 28 = .ok (.getfield 11, 3) := dk_180 0 11 (dk_at dksX7_make_1 5 rfl rfl)
theorem dX7_make_31 : decode cX7_make 31 = .ok (.lshl, 1) := dk_121 (dk_at dksX7_make_1 8 rfl rfl)
theorem dX7_make_32 : decode cX7_make 32 = .ok (.ldc2_w 27, 3) := dk_20 0 27 (dk_at dksX7_make_1 9 rfl rfl)
theorem dX7_make_35 : decode cX7_make 35 = .ok (.lxor, 1) := dk_131 (dk_at dksX7_make_1 12 rfl rfl)
theorem dX7_make_36 : decode cX7_make 36 = .ok (.land, 1) := dk_127 (dk_at dksX7_make_1 13 rfl rfl)
theorem dX7_make_37 : decode cX7_make 37 = .ok (.putfield 21, 3) := dk_181 0 21 (dk_at dksX7_make_1 14 rfl rfl)
theorem dX7_make_40 : decode cX7_make 40 = .ok (.return_, 1) := dk_177 (dk_at dksX7_make_1 17 rfl rfl)
abbrev cX7_init : ByteArray := prog_3_method_1_code
def yX7_init : MethodName := ⟨RX7, "<init>", "(LLakeLevels;ZI)V"⟩
def dkwX7_init_0 : List UInt8 := [42, 43, 181, 0, 1, 42, 28, 181, 0, 7, 42, 29, 181, 0, 11, 42, 183, 0, 15, 177]
abbrev dktX7_init_0 : List UInt8 := dkwX7_init_0 ++ []
theorem dksX7_init_0 : cX7_init.data.toList.drop 0 = dktX7_init_0 := by decide +kernel
theorem dX7_init_0 : decode cX7_init 0 = .ok (.aload_n 0, 1) := dk_42 (dk_at dksX7_init_0 0 rfl rfl)
theorem dX7_init_1 : decode cX7_init 1 = .ok (.aload_n 1, 1) := dk_43 (dk_at dksX7_init_0 1 rfl rfl)
theorem dX7_init_2 : decode cX7_init 2 = .ok (.putfield 1, 3) := dk_181 0 1 (dk_at dksX7_init_0 2 rfl rfl)
theorem dX7_init_5 : decode cX7_init 5 = .ok (.aload_n 0, 1) := dk_42 (dk_at dksX7_init_0 5 rfl rfl)
theorem dX7_init_6 : decode cX7_init 6 = .ok (.iload_n 2, 1) := dk_28 (dk_at dksX7_init_0 6 rfl rfl)
theorem dX7_init_7 : decode cX7_init 7 = .ok (.putfield 7, 3) := dk_181 0 7 (dk_at dksX7_init_0 7 rfl rfl)
theorem dX7_init_10 : decode cX7_init 10 = .ok (.aload_n 0, 1) := dk_42 (dk_at dksX7_init_0 10 rfl rfl)
theorem dX7_init_11 : decode cX7_init 11 = .ok (.iload_n 3, 1) := dk_29 (dk_at dksX7_init_0 11 rfl rfl)
theorem dX7_init_12 : decode cX7_init 12 = .ok (.putfield 11, 3) := dk_181 0 11 (dk_at dksX7_init_0 12 rfl rfl)
theorem dX7_init_15 : decode cX7_init 15 = .ok (.aload_n 0, 1) := dk_42 (dk_at dksX7_init_0 15 rfl rfl)
theorem dX7_init_16 : decode cX7_init 16 = .ok (.invokespecial 15, 3) := dk_183 0 15 (dk_at dksX7_init_0 16 rfl rfl)
theorem dX7_init_19 : decode cX7_init 19 = .ok (.return_, 1) := dk_177 (dk_at dksX7_init_0 19 rfl rfl)
theorem q144 : (Jvm.Cond.initialized "LakeLevels$2") ∈ lw_all := lw_g (lw_at lw_m1 43 rfl) rfl
theorem q177 : (Jvm.Cond.fieldLinkNest "LakeLevels$2" (21 : Nat) "LakeLevels$Land" "drains" "J" "LakeLevels") ∈ lw_tbl := lw_at lw_m1 76 rfl
theorem q443 : (Jvm.Cond.selects "LakeLevels$2" ({ cls := "java/lang/Object", name := "getClass", desc := "()Ljava/lang/Class;" } : Jvm.MethodName) ({ cls := "java/lang/Object", name := "getClass", desc := "()Ljava/lang/Class;" } : Jvm.MethodName)) ∈ lw_all := lw_g (lw_at lw_m2 102 rfl) rfl
theorem q1533 : (Jvm.Cond.selects "LakeLevels$2" ({ cls := "java/lang/Object", name := "equals", desc := "(Ljava/lang/Object;)Z" } : Jvm.MethodName) ({ cls := "java/lang/Object", name := "equals", desc := "(Ljava/lang/Object;)Z" } : Jvm.MethodName)) ∈ lw_all := lw_g (lw_at lw_m6 232 rfl) rfl
theorem q1741 : (Jvm.Cond.castable "LakeLevels$2" "LakeLevels$Change") ∈ lw_tbl := lw_at lw_m7 200 rfl
theorem q1742 : (Jvm.Cond.selects "LakeLevels$2" ({ cls := "LakeLevels$Change", name := "make", desc := "(LLakeLevels$Land;)V" } : Jvm.MethodName) ({ cls := "LakeLevels$2", name := "make", desc := "(LLakeLevels$Land;)V" } : Jvm.MethodName)) ∈ lw_all := lw_g (lw_at lw_m7 201 rfl) rfl
theorem q1743 : (Jvm.Cond.unhidden "LakeLevels$2" "make" "(LLakeLevels$Land;)V") ∈ lw_tbl := lw_at lw_m7 202 rfl
theorem q1744 : (Jvm.Cond.instanceMethod ({ cls := "LakeLevels$2", name := "make", desc := "(LLakeLevels$Land;)V" } : Jvm.MethodName)) ∈ lw_all := lw_g (lw_at lw_m7 203 rfl) rfl
theorem q1745 : (Jvm.Cond.publicMethod ({ cls := "LakeLevels$2", name := "make", desc := "(LLakeLevels$Land;)V" } : Jvm.MethodName)) ∈ lw_tbl := lw_at lw_m7 204 rfl
theorem q1746 : (Jvm.Cond.code ({ cls := "LakeLevels$2", name := "make", desc := "(LLakeLevels$Land;)V" } : Jvm.MethodName) prog_3_method_2_code (2 : Nat) (Option.none : Option Jvm.ClassFile.FieldType)) ∈ lw_all := lw_g (lw_at lw_m7 205 rfl) rfl
theorem q1747 : (Jvm.Cond.constantLong "LakeLevels$2" (27 : Nat) (-1 : Int64)) ∈ lw_all := lw_g (lw_at lw_m7 206 rfl) rfl
theorem q1802 : (Jvm.Cond.instantiable "LakeLevels$2" (3 : Nat)) ∈ lw_all := lw_g (lw_at lw_m8 21 rfl) rfl
theorem q1804 : (Jvm.Cond.instanceMethod ({ cls := "LakeLevels$2", name := "<init>", desc := "(LLakeLevels;ZI)V" } : Jvm.MethodName)) ∈ lw_all := lw_g (lw_at lw_m8 23 rfl) rfl
theorem q1805 : (Jvm.Cond.code ({ cls := "LakeLevels$2", name := "<init>", desc := "(LLakeLevels;ZI)V" } : Jvm.MethodName) prog_3_method_1_code (4 : Nat) (Option.none : Option Jvm.ClassFile.FieldType)) ∈ lw_all := lw_g (lw_at lw_m8 24 rfl) rfl
theorem q1806 : (Jvm.Cond.methodLink "LakeLevels$2" (15 : Nat) ({ cls := "java/lang/Object", name := "<init>", desc := "()V" } : Jvm.MethodName)) ∈ lw_all := lw_g (lw_at lw_m8 25 rfl) rfl
theorem q1807 : (Jvm.Cond.fieldLink "LakeLevels$2" (7 : Nat) "LakeLevels$2" "val$drain" "Z") ∈ lw_all := lw_g (lw_at lw_m8 26 rfl) rfl
theorem q1808 : (Jvm.Cond.fieldLink "LakeLevels$2" (11 : Nat) "LakeLevels$2" "val$cell" "I") ∈ lw_all := lw_g (lw_at lw_m8 27 rfl) rfl
theorem q1809 : (Jvm.Cond.fieldLink "LakeLevels$2" (1 : Nat) "LakeLevels$2" "this$0" "LLakeLevels;") ∈ lw_all := lw_g (lw_at lw_m8 28 rfl) rfl
theorem q1810 : (Jvm.Cond.laysFinal "LakeLevels$2" "LakeLevels$2" "val$drain" "Z") ∈ lw_all := lw_g (lw_at lw_m8 29 rfl) rfl
theorem q1811 : (Jvm.Cond.soleField "LakeLevels$2" "val$drain") ∈ lw_all := lw_g (lw_at lw_m8 30 rfl) rfl
theorem q1812 : (Jvm.Cond.laysFinal "LakeLevels$2" "LakeLevels$2" "val$cell" "I") ∈ lw_all := lw_g (lw_at lw_m8 31 rfl) rfl
theorem q1813 : (Jvm.Cond.soleField "LakeLevels$2" "val$cell") ∈ lw_all := lw_g (lw_at lw_m8 32 rfl) rfl
theorem q1814 : (Jvm.Cond.laysFinal "LakeLevels$2" "LakeLevels$2" "this$0" "LLakeLevels;") ∈ lw_all := lw_g (lw_at lw_m8 33 rfl) rfl
theorem q1815 : (Jvm.Cond.soleField "LakeLevels$2" "this$0") ∈ lw_all := lw_g (lw_at lw_m8 34 rfl) rfl
theorem q1816 : (Jvm.Cond.superclass "LakeLevels$2" "java/lang/Object") ∈ lw_all := lw_g (lw_at lw_m8 35 rfl) rfl
theorem q2546 : (Jvm.Cond.castable "LakeLevels$2" "java/lang/Object") ∈ lw_tbl := lw_at lw_m11 45 rfl
theorem in_X7 : ∀ w ∈ wsX70, w ∈ lw_all := lw_in wsX70 [1810, 1812, 1814] (by decide +kernel) (by decide +kernel)

/-! LakeLevels$GateChange -/
set_option maxRecDepth 100000
def RX8 : String := "LakeLevels$GateChange"
def TX8 : u_T := fun k => match k with
  | 0 => ("LakeLevels$GateChange", "a", "I", true)
  | 1 => ("LakeLevels$GateChange", "b", "I", true)
  | _ => ("LakeLevels$GateChange", "height", "I", true)
def tyX8 : Nat → FieldType := fun k => match k with
  | 0 => .int
  | 1 => .int
  | _ => .int
abbrev wsX80 : List Cond := u_ws RX8 TX8 3
theorem nmX8 : ∀ a, a < 3 → ∀ b, b < 3 → a ≠ b → (TX8 a).2.1 ≠ (TX8 b).2.1 := by decide +kernel
theorem tyX8_ok : ∀ k, k < 3 → parseFieldDescriptor (TX8 k).2.2.1 = some (tyX8 k) := by decide +kernel
abbrev cX8_make : ByteArray := prog_6_method_2_code
def yX8_make : MethodName := ⟨RX8, "make", "(LLakeLevels$Land;)V"⟩
def dkwX8_make_0 : List UInt8 := [43, 42, 180, 0, 7, 42, 180, 0, 13, 42, 180, 0, 16, 182, 0, 19, 177]
abbrev dktX8_make_0 : List UInt8 := dkwX8_make_0 ++ []
theorem dksX8_make_0 : cX8_make.data.toList.drop 0 = dktX8_make_0 := by decide +kernel
theorem dX8_make_0 : decode cX8_make 0 = .ok (.aload_n 1, 1) := dk_43 (dk_at dksX8_make_0 0 rfl rfl)
theorem dX8_make_1 : decode cX8_make 1 = .ok (.aload_n 0, 1) := dk_42 (dk_at dksX8_make_0 1 rfl rfl)
theorem dX8_make_2 : decode cX8_make 2 = .ok (.getfield 7, 3) := dk_180 0 7 (dk_at dksX8_make_0 2 rfl rfl)
theorem dX8_make_5 : decode cX8_make 5 = .ok (.aload_n 0, 1) := dk_42 (dk_at dksX8_make_0 5 rfl rfl)
theorem dX8_make_6 : decode cX8_make 6 = .ok (.getfield 13, 3) := dk_180 0 13 (dk_at dksX8_make_0 6 rfl rfl)
theorem dX8_make_9 : decode cX8_make 9 = .ok (.aload_n 0, 1) := dk_42 (dk_at dksX8_make_0 9 rfl rfl)
theorem dX8_make_10 : decode cX8_make 10 = .ok (.getfield 16, 3) := dk_180 0 16 (dk_at dksX8_make_0 10 rfl rfl)
theorem dX8_make_13 : decode cX8_make 13 = .ok (.invokevirtual 19, 3) := dk_182 0 19 (dk_at dksX8_make_0 13 rfl rfl)
theorem dX8_make_16 : decode cX8_make 16 = .ok (.return_, 1) := dk_177 (dk_at dksX8_make_0 16 rfl rfl)
abbrev cX8_init : ByteArray := prog_6_method_1_code
def yX8_init : MethodName := ⟨RX8, "<init>", "(III)V"⟩
def dkwX8_init_0 : List UInt8 := [42, 183, 0, 1, 42, 27, 181, 0, 7, 42, 28, 181, 0, 13, 42, 29, 181, 0, 16, 177]
abbrev dktX8_init_0 : List UInt8 := dkwX8_init_0 ++ []
theorem dksX8_init_0 : cX8_init.data.toList.drop 0 = dktX8_init_0 := by decide +kernel
theorem dX8_init_0 : decode cX8_init 0 = .ok (.aload_n 0, 1) := dk_42 (dk_at dksX8_init_0 0 rfl rfl)
theorem dX8_init_1 : decode cX8_init 1 = .ok (.invokespecial 1, 3) := dk_183 0 1 (dk_at dksX8_init_0 1 rfl rfl)
theorem dX8_init_4 : decode cX8_init 4 = .ok (.aload_n 0, 1) := dk_42 (dk_at dksX8_init_0 4 rfl rfl)
theorem dX8_init_5 : decode cX8_init 5 = .ok (.iload_n 1, 1) := dk_27 (dk_at dksX8_init_0 5 rfl rfl)
theorem dX8_init_6 : decode cX8_init 6 = .ok (.putfield 7, 3) := dk_181 0 7 (dk_at dksX8_init_0 6 rfl rfl)
theorem dX8_init_9 : decode cX8_init 9 = .ok (.aload_n 0, 1) := dk_42 (dk_at dksX8_init_0 9 rfl rfl)
theorem dX8_init_10 : decode cX8_init 10 = .ok (.iload_n 2, 1) := dk_28 (dk_at dksX8_init_0 10 rfl rfl)
theorem dX8_init_11 : decode cX8_init 11 = .ok (.putfield 13, 3) := dk_181 0 13 (dk_at dksX8_init_0 11 rfl rfl)
theorem dX8_init_14 : decode cX8_init 14 = .ok (.aload_n 0, 1) := dk_42 (dk_at dksX8_init_0 14 rfl rfl)
theorem dX8_init_15 : decode cX8_init 15 = .ok (.iload_n 3, 1) := dk_29 (dk_at dksX8_init_0 15 rfl rfl)
theorem dX8_init_16 : decode cX8_init 16 = .ok (.putfield 16, 3) := dk_181 0 16 (dk_at dksX8_init_0 16 rfl rfl)
theorem dX8_init_19 : decode cX8_init 19 = .ok (.return_, 1) := dk_177 (dk_at dksX8_init_0 19 rfl rfl)
theorem q145 : (Jvm.Cond.initialized "LakeLevels$GateChange") ∈ lw_all := lw_g (lw_at lw_m1 44 rfl) rfl
theorem q445 : (Jvm.Cond.selects "LakeLevels$GateChange" ({ cls := "java/lang/Object", name := "getClass", desc := "()Ljava/lang/Class;" } : Jvm.MethodName) ({ cls := "java/lang/Object", name := "getClass", desc := "()Ljava/lang/Class;" } : Jvm.MethodName)) ∈ lw_all := lw_g (lw_at lw_m2 104 rfl) rfl
theorem q1535 : (Jvm.Cond.selects "LakeLevels$GateChange" ({ cls := "java/lang/Object", name := "equals", desc := "(Ljava/lang/Object;)Z" } : Jvm.MethodName) ({ cls := "java/lang/Object", name := "equals", desc := "(Ljava/lang/Object;)Z" } : Jvm.MethodName)) ∈ lw_all := lw_g (lw_at lw_m6 234 rfl) rfl
theorem q1759 : (Jvm.Cond.castable "LakeLevels$GateChange" "LakeLevels$Change") ∈ lw_tbl := lw_at lw_m7 218 rfl
theorem q1760 : (Jvm.Cond.selects "LakeLevels$GateChange" ({ cls := "LakeLevels$Change", name := "make", desc := "(LLakeLevels$Land;)V" } : Jvm.MethodName) ({ cls := "LakeLevels$GateChange", name := "make", desc := "(LLakeLevels$Land;)V" } : Jvm.MethodName)) ∈ lw_all := lw_g (lw_at lw_m7 219 rfl) rfl
theorem q1761 : (Jvm.Cond.unhidden "LakeLevels$GateChange" "make" "(LLakeLevels$Land;)V") ∈ lw_tbl := lw_at lw_m7 220 rfl
theorem q1762 : (Jvm.Cond.instanceMethod ({ cls := "LakeLevels$GateChange", name := "make", desc := "(LLakeLevels$Land;)V" } : Jvm.MethodName)) ∈ lw_all := lw_g (lw_at lw_m7 221 rfl) rfl
theorem q1763 : (Jvm.Cond.publicMethod ({ cls := "LakeLevels$GateChange", name := "make", desc := "(LLakeLevels$Land;)V" } : Jvm.MethodName)) ∈ lw_tbl := lw_at lw_m7 222 rfl
theorem q1764 : (Jvm.Cond.code ({ cls := "LakeLevels$GateChange", name := "make", desc := "(LLakeLevels$Land;)V" } : Jvm.MethodName) prog_6_method_2_code (2 : Nat) (Option.none : Option Jvm.ClassFile.FieldType)) ∈ lw_all := lw_g (lw_at lw_m7 223 rfl) rfl
theorem q1765 : (Jvm.Cond.methodLink "LakeLevels$GateChange" (19 : Nat) ({ cls := "LakeLevels$Land", name := "setGate", desc := "(III)V" } : Jvm.MethodName)) ∈ lw_all := lw_g (lw_at lw_m7 224 rfl) rfl
theorem q1831 : (Jvm.Cond.instantiable "LakeLevels$GateChange" (3 : Nat)) ∈ lw_all := lw_g (lw_at lw_m8 50 rfl) rfl
theorem q1833 : (Jvm.Cond.instanceMethod ({ cls := "LakeLevels$GateChange", name := "<init>", desc := "(III)V" } : Jvm.MethodName)) ∈ lw_all := lw_g (lw_at lw_m8 52 rfl) rfl
theorem q1834 : (Jvm.Cond.code ({ cls := "LakeLevels$GateChange", name := "<init>", desc := "(III)V" } : Jvm.MethodName) prog_6_method_1_code (4 : Nat) (Option.none : Option Jvm.ClassFile.FieldType)) ∈ lw_all := lw_g (lw_at lw_m8 53 rfl) rfl
theorem q1835 : (Jvm.Cond.methodLink "LakeLevels$GateChange" (1 : Nat) ({ cls := "java/lang/Object", name := "<init>", desc := "()V" } : Jvm.MethodName)) ∈ lw_all := lw_g (lw_at lw_m8 54 rfl) rfl
theorem q1836 : (Jvm.Cond.fieldLink "LakeLevels$GateChange" (7 : Nat) "LakeLevels$GateChange" "a" "I") ∈ lw_all := lw_g (lw_at lw_m8 55 rfl) rfl
theorem q1837 : (Jvm.Cond.fieldLink "LakeLevels$GateChange" (13 : Nat) "LakeLevels$GateChange" "b" "I") ∈ lw_all := lw_g (lw_at lw_m8 56 rfl) rfl
theorem q1838 : (Jvm.Cond.fieldLink "LakeLevels$GateChange" (16 : Nat) "LakeLevels$GateChange" "height" "I") ∈ lw_all := lw_g (lw_at lw_m8 57 rfl) rfl
theorem q1839 : (Jvm.Cond.laysFinal "LakeLevels$GateChange" "LakeLevels$GateChange" "a" "I") ∈ lw_all := lw_g (lw_at lw_m8 58 rfl) rfl
theorem q1840 : (Jvm.Cond.soleField "LakeLevels$GateChange" "a") ∈ lw_all := lw_g (lw_at lw_m8 59 rfl) rfl
theorem q1841 : (Jvm.Cond.laysFinal "LakeLevels$GateChange" "LakeLevels$GateChange" "b" "I") ∈ lw_all := lw_g (lw_at lw_m8 60 rfl) rfl
theorem q1842 : (Jvm.Cond.soleField "LakeLevels$GateChange" "b") ∈ lw_all := lw_g (lw_at lw_m8 61 rfl) rfl
theorem q1843 : (Jvm.Cond.laysFinal "LakeLevels$GateChange" "LakeLevels$GateChange" "height" "I") ∈ lw_all := lw_g (lw_at lw_m8 62 rfl) rfl
theorem q1844 : (Jvm.Cond.soleField "LakeLevels$GateChange" "height") ∈ lw_all := lw_g (lw_at lw_m8 63 rfl) rfl
theorem q1845 : (Jvm.Cond.superclass "LakeLevels$GateChange" "java/lang/Object") ∈ lw_all := lw_g (lw_at lw_m8 64 rfl) rfl
theorem q2547 : (Jvm.Cond.castable "LakeLevels$GateChange" "java/lang/Object") ∈ lw_tbl := lw_at lw_m11 46 rfl
theorem in_X8 : ∀ w ∈ wsX80, w ∈ lw_all := lw_in wsX80 [1839, 1841, 1843] (by decide +kernel) (by decide +kernel)

/-! LakeLevels$3 -/
set_option maxRecDepth 100000
def RX9 : String := "LakeLevels$3"
def TX9 : u_T := fun k => match k with
  | 0 => ("LakeLevels$3", "val$seed", "I", true)
  | 1 => ("LakeLevels$3", "val$highest", "I", true)
  | _ => ("LakeLevels$3", "this$0", "LLakeLevels;", true)
def tyX9 : Nat → FieldType := fun k => match k with
  | 0 => .int
  | 1 => .int
  | _ => .object "LakeLevels"
abbrev wsX90 : List Cond := u_ws RX9 TX9 3
theorem nmX9 : ∀ a, a < 3 → ∀ b, b < 3 → a ≠ b → (TX9 a).2.1 ≠ (TX9 b).2.1 := by decide +kernel
theorem tyX9_ok : ∀ k, k < 3 → parseFieldDescriptor (TX9 k).2.2.1 = some (tyX9 k) := by decide +kernel
abbrev cX9_make : ByteArray := prog_4_method_2_code
def yX9_make : MethodName := ⟨RX9, "make", "(LLakeLevels$Land;)V"⟩
def dkwX9_make_2 : List UInt8 := [4, 96, 133, 113, 136, 79, 132, 4, 1, 167, 255, 209, 177]
abbrev dktX9_make_2 : List UInt8 := dkwX9_make_2 ++ []
def dkwX9_make_1 : List UInt8 := [20, 0, 28, 97, 20, 0, 30, 113, 65, 43, 180, 0, 32, 21, 4, 32, 20, 0, 36, 109, 42, 180, 0, 11]
abbrev dktX9_make_1 : List UInt8 := dkwX9_make_1 ++ dktX9_make_2
def dkwX9_make_0 : List UInt8 := [42, 180, 0, 7, 133, 65, 3, 54, 4, 21, 4, 43, 182, 0, 20, 162, 0, 44, 20, 0, 26, 32, 105]
abbrev dktX9_make_0 : List UInt8 := dkwX9_make_0 ++ dktX9_make_1
theorem dksX9_make_0 : cX9_make.data.toList.drop 0 = dktX9_make_0 := by decide +kernel
theorem dksX9_make_1 : cX9_make.data.toList.drop 23 = dktX9_make_1 := dk_seg dksX9_make_0 23 rfl rfl
theorem dksX9_make_2 : cX9_make.data.toList.drop 47 = dktX9_make_2 := dk_seg dksX9_make_1 24 rfl rfl
theorem dX9_make_0 : decode cX9_make 0 = .ok (.aload_n 0, 1) := dk_42 (dk_at dksX9_make_0 0 rfl rfl)
theorem dX9_make_1 : decode cX9_make 1 = .ok (.getfield 7, 3) := dk_180 0 7 (dk_at dksX9_make_0 1 rfl rfl)
theorem dX9_make_4 : decode cX9_make 4 = .ok (.i2l, 1) := dk_133 (dk_at dksX9_make_0 4 rfl rfl)
theorem dX9_make_5 : decode cX9_make 5 = .ok (.lstore_n 2, 1) := dk_65 (dk_at dksX9_make_0 5 rfl rfl)
theorem dX9_make_6 : decode cX9_make 6 = .ok (.iconst 0, 1) := dk_3 (dk_at dksX9_make_0 6 rfl rfl)
theorem dX9_make_7 : decode cX9_make 7 = .ok (.istore 4, 2) := dk_54 4 (dk_at dksX9_make_0 7 rfl rfl)
theorem dX9_make_9 : decode cX9_make 9 = .ok (.iload 4, 2) := dk_21 4 (dk_at dksX9_make_0 9 rfl rfl)
theorem dX9_make_11 : decode cX9_make 11 = .ok (.aload_n 1, 1) := dk_43 (dk_at dksX9_make_0 11 rfl rfl)
theorem dX9_make_12 : decode cX9_make 12 = .ok (.invokevirtual 20, 3) := dk_182 0 20 (dk_at dksX9_make_0 12 rfl rfl)
theorem dX9_make_15 : decode cX9_make 15 = .ok (.if_icmp .ge 44, 3) := dk_162 0 44 (dk_at dksX9_make_0 15 rfl rfl)
theorem dX9_make_18 : decode cX9_make 18 = .ok (.ldc2_w 26, 3) := dk_20 0 26 (dk_at dksX9_make_0 18 rfl rfl)
theorem dX9_make_21 : decode cX9_make 21 = .ok (.lload_n 2, 1) := dk_32 (dk_at dksX9_make_0 21 rfl rfl)
theorem dX9_make_22 : decode cX9_make 22 = .ok (.lmul, 1) := dk_105 (dk_at dksX9_make_0 22 rfl rfl)
theorem dX9_make_23 : decode cX9_make 23 = .ok (.ldc2_w 28, 3) := dk_20 0 28 (dk_at dksX9_make_1 0 rfl rfl)
theorem dX9_make_26 : decode cX9_make 26 = .ok (.ladd, 1) := dk_97 (dk_at dksX9_make_1 3 rfl rfl)
theorem dX9_make_27 : decode cX9_make 27 = .ok (.ldc2_w 30, 3) := dk_20 0 30 (dk_at dksX9_make_1 4 rfl rfl)
theorem dX9_make_30 : decode cX9_make 30 = .ok (.lrem, 1) := dk_113 (dk_at dksX9_make_1 7 rfl rfl)
theorem dX9_make_31 : decode cX9_make 31 = .ok (.lstore_n 2, 1) := dk_65 (dk_at dksX9_make_1 8 rfl rfl)
theorem dX9_make_32 : decode cX9_make 32 = .ok (.aload_n 1, 1) := dk_43 (dk_at dksX9_make_1 9 rfl rfl)
theorem dX9_make_33 : decode cX9_make 33 = .ok (.getfield 32, 3) := dk_180 0 32 (dk_at dksX9_make_1 10 rfl rfl)
theorem dX9_make_36 : decode cX9_make 36 = .ok (.iload 4, 2) := dk_21 4 (dk_at dksX9_make_1 13 rfl rfl)
theorem dX9_make_38 : decode cX9_make 38 = .ok (.lload_n 2, 1) := dk_32 (dk_at dksX9_make_1 15 rfl rfl)
theorem dX9_make_39 : decode cX9_make 39 = .ok (.ldc2_w 36, 3) := dk_20 0 36 (dk_at dksX9_make_1 16 rfl rfl)
theorem dX9_make_42 : decode cX9_make 42 = .ok (.ldiv, 1) := dk_109 (dk_at dksX9_make_1 19 rfl rfl)
theorem dX9_make_43 : decode cX9_make 43 = .ok (.aload_n 0, 1) := dk_42 (dk_at dksX9_make_1 20 rfl rfl)
theorem dX9_make_44 : decode cX9_make 44 = .ok (.getfield 11, 3) := dk_180 0 11 (dk_at dksX9_make_1 21 rfl rfl)
theorem dX9_make_47 : decode cX9_make 47 = .ok (.iconst 1, 1) := dk_4 (dk_at dksX9_make_2 0 rfl rfl)
theorem dX9_make_48 : decode cX9_make 48 = .ok (.iadd, 1) := dk_96 (dk_at dksX9_make_2 1 rfl rfl)
theorem dX9_make_49 : decode cX9_make 49 = .ok (.i2l, 1) := dk_133 (dk_at dksX9_make_2 2 rfl rfl)
theorem dX9_make_50 : decode cX9_make 50 = .ok (.lrem, 1) := dk_113 (dk_at dksX9_make_2 3 rfl rfl)
theorem dX9_make_51 : decode cX9_make 51 = .ok (.l2i, 1) := dk_136 (dk_at dksX9_make_2 4 rfl rfl)
theorem dX9_make_52 : decode cX9_make 52 = .ok (.iastore, 1) := dk_79 (dk_at dksX9_make_2 5 rfl rfl)
theorem dX9_make_53 : decode cX9_make 53 = .ok (.iinc 4 1, 3) := dk_132 4 1 (dk_at dksX9_make_2 6 rfl rfl)
theorem dX9_make_56 : decode cX9_make 56 = .ok (.goto (-47), 3) := dk_167 255 209 (dk_at dksX9_make_2 9 rfl rfl)
theorem dX9_make_59 : decode cX9_make 59 = .ok (.return_, 1) := dk_177 (dk_at dksX9_make_2 12 rfl rfl)
abbrev cX9_init : ByteArray := prog_4_method_1_code
def yX9_init : MethodName := ⟨RX9, "<init>", "(LLakeLevels;II)V"⟩
def dkwX9_init_0 : List UInt8 := [42, 43, 181, 0, 1, 42, 28, 181, 0, 7, 42, 29, 181, 0, 11, 42, 183, 0, 14, 177]
abbrev dktX9_init_0 : List UInt8 := dkwX9_init_0 ++ []
theorem dksX9_init_0 : cX9_init.data.toList.drop 0 = dktX9_init_0 := by decide +kernel
theorem dX9_init_0 : decode cX9_init 0 = .ok (.aload_n 0, 1) := dk_42 (dk_at dksX9_init_0 0 rfl rfl)
theorem dX9_init_1 : decode cX9_init 1 = .ok (.aload_n 1, 1) := dk_43 (dk_at dksX9_init_0 1 rfl rfl)
theorem dX9_init_2 : decode cX9_init 2 = .ok (.putfield 1, 3) := dk_181 0 1 (dk_at dksX9_init_0 2 rfl rfl)
theorem dX9_init_5 : decode cX9_init 5 = .ok (.aload_n 0, 1) := dk_42 (dk_at dksX9_init_0 5 rfl rfl)
theorem dX9_init_6 : decode cX9_init 6 = .ok (.iload_n 2, 1) := dk_28 (dk_at dksX9_init_0 6 rfl rfl)
theorem dX9_init_7 : decode cX9_init 7 = .ok (.putfield 7, 3) := dk_181 0 7 (dk_at dksX9_init_0 7 rfl rfl)
theorem dX9_init_10 : decode cX9_init 10 = .ok (.aload_n 0, 1) := dk_42 (dk_at dksX9_init_0 10 rfl rfl)
theorem dX9_init_11 : decode cX9_init 11 = .ok (.iload_n 3, 1) := dk_29 (dk_at dksX9_init_0 11 rfl rfl)
theorem dX9_init_12 : decode cX9_init 12 = .ok (.putfield 11, 3) := dk_181 0 11 (dk_at dksX9_init_0 12 rfl rfl)
theorem dX9_init_15 : decode cX9_init 15 = .ok (.aload_n 0, 1) := dk_42 (dk_at dksX9_init_0 15 rfl rfl)
theorem dX9_init_16 : decode cX9_init 16 = .ok (.invokespecial 14, 3) := dk_183 0 14 (dk_at dksX9_init_0 16 rfl rfl)
theorem dX9_init_19 : decode cX9_init 19 = .ok (.return_, 1) := dk_177 (dk_at dksX9_init_0 19 rfl rfl)
theorem q146 : (Jvm.Cond.initialized "LakeLevels$3") ∈ lw_all := lw_g (lw_at lw_m1 45 rfl) rfl
theorem q172 : (Jvm.Cond.fieldLinkNest "LakeLevels$3" (32 : Nat) "LakeLevels$Land" "heights" "[I" "LakeLevels") ∈ lw_tbl := lw_at lw_m1 71 rfl
theorem q444 : (Jvm.Cond.selects "LakeLevels$3" ({ cls := "java/lang/Object", name := "getClass", desc := "()Ljava/lang/Class;" } : Jvm.MethodName) ({ cls := "java/lang/Object", name := "getClass", desc := "()Ljava/lang/Class;" } : Jvm.MethodName)) ∈ lw_all := lw_g (lw_at lw_m2 103 rfl) rfl
theorem q1534 : (Jvm.Cond.selects "LakeLevels$3" ({ cls := "java/lang/Object", name := "equals", desc := "(Ljava/lang/Object;)Z" } : Jvm.MethodName) ({ cls := "java/lang/Object", name := "equals", desc := "(Ljava/lang/Object;)Z" } : Jvm.MethodName)) ∈ lw_all := lw_g (lw_at lw_m6 233 rfl) rfl
theorem q1748 : (Jvm.Cond.castable "LakeLevels$3" "LakeLevels$Change") ∈ lw_tbl := lw_at lw_m7 207 rfl
theorem q1749 : (Jvm.Cond.selects "LakeLevels$3" ({ cls := "LakeLevels$Change", name := "make", desc := "(LLakeLevels$Land;)V" } : Jvm.MethodName) ({ cls := "LakeLevels$3", name := "make", desc := "(LLakeLevels$Land;)V" } : Jvm.MethodName)) ∈ lw_all := lw_g (lw_at lw_m7 208 rfl) rfl
theorem q1750 : (Jvm.Cond.unhidden "LakeLevels$3" "make" "(LLakeLevels$Land;)V") ∈ lw_tbl := lw_at lw_m7 209 rfl
theorem q1751 : (Jvm.Cond.instanceMethod ({ cls := "LakeLevels$3", name := "make", desc := "(LLakeLevels$Land;)V" } : Jvm.MethodName)) ∈ lw_all := lw_g (lw_at lw_m7 210 rfl) rfl
theorem q1752 : (Jvm.Cond.publicMethod ({ cls := "LakeLevels$3", name := "make", desc := "(LLakeLevels$Land;)V" } : Jvm.MethodName)) ∈ lw_tbl := lw_at lw_m7 211 rfl
theorem q1753 : (Jvm.Cond.code ({ cls := "LakeLevels$3", name := "make", desc := "(LLakeLevels$Land;)V" } : Jvm.MethodName) prog_4_method_2_code (5 : Nat) (Option.none : Option Jvm.ClassFile.FieldType)) ∈ lw_all := lw_g (lw_at lw_m7 212 rfl) rfl
theorem q1754 : (Jvm.Cond.methodLink "LakeLevels$3" (20 : Nat) ({ cls := "LakeLevels$Land", name := "size", desc := "()I" } : Jvm.MethodName)) ∈ lw_all := lw_g (lw_at lw_m7 213 rfl) rfl
theorem q1755 : (Jvm.Cond.constantLong "LakeLevels$3" (26 : Nat) (1103515245 : Int64)) ∈ lw_all := lw_g (lw_at lw_m7 214 rfl) rfl
theorem q1756 : (Jvm.Cond.constantLong "LakeLevels$3" (28 : Nat) (12345 : Int64)) ∈ lw_all := lw_g (lw_at lw_m7 215 rfl) rfl
theorem q1757 : (Jvm.Cond.constantLong "LakeLevels$3" (30 : Nat) (2147483648 : Int64)) ∈ lw_all := lw_g (lw_at lw_m7 216 rfl) rfl
theorem q1758 : (Jvm.Cond.constantLong "LakeLevels$3" (36 : Nat) (65536 : Int64)) ∈ lw_all := lw_g (lw_at lw_m7 217 rfl) rfl
theorem q1855 : (Jvm.Cond.instantiable "LakeLevels$3" (3 : Nat)) ∈ lw_all := lw_g (lw_at lw_m8 74 rfl) rfl
theorem q1857 : (Jvm.Cond.instanceMethod ({ cls := "LakeLevels$3", name := "<init>", desc := "(LLakeLevels;II)V" } : Jvm.MethodName)) ∈ lw_all := lw_g (lw_at lw_m8 76 rfl) rfl
theorem q1858 : (Jvm.Cond.code ({ cls := "LakeLevels$3", name := "<init>", desc := "(LLakeLevels;II)V" } : Jvm.MethodName) prog_4_method_1_code (4 : Nat) (Option.none : Option Jvm.ClassFile.FieldType)) ∈ lw_all := lw_g (lw_at lw_m8 77 rfl) rfl
theorem q1859 : (Jvm.Cond.methodLink "LakeLevels$3" (14 : Nat) ({ cls := "java/lang/Object", name := "<init>", desc := "()V" } : Jvm.MethodName)) ∈ lw_all := lw_g (lw_at lw_m8 78 rfl) rfl
theorem q1860 : (Jvm.Cond.fieldLink "LakeLevels$3" (7 : Nat) "LakeLevels$3" "val$seed" "I") ∈ lw_all := lw_g (lw_at lw_m8 79 rfl) rfl
theorem q1861 : (Jvm.Cond.fieldLink "LakeLevels$3" (11 : Nat) "LakeLevels$3" "val$highest" "I") ∈ lw_all := lw_g (lw_at lw_m8 80 rfl) rfl
theorem q1862 : (Jvm.Cond.fieldLink "LakeLevels$3" (1 : Nat) "LakeLevels$3" "this$0" "LLakeLevels;") ∈ lw_all := lw_g (lw_at lw_m8 81 rfl) rfl
theorem q1863 : (Jvm.Cond.laysFinal "LakeLevels$3" "LakeLevels$3" "val$seed" "I") ∈ lw_all := lw_g (lw_at lw_m8 82 rfl) rfl
theorem q1864 : (Jvm.Cond.soleField "LakeLevels$3" "val$seed") ∈ lw_all := lw_g (lw_at lw_m8 83 rfl) rfl
theorem q1865 : (Jvm.Cond.laysFinal "LakeLevels$3" "LakeLevels$3" "val$highest" "I") ∈ lw_all := lw_g (lw_at lw_m8 84 rfl) rfl
theorem q1866 : (Jvm.Cond.soleField "LakeLevels$3" "val$highest") ∈ lw_all := lw_g (lw_at lw_m8 85 rfl) rfl
theorem q1867 : (Jvm.Cond.laysFinal "LakeLevels$3" "LakeLevels$3" "this$0" "LLakeLevels;") ∈ lw_all := lw_g (lw_at lw_m8 86 rfl) rfl
theorem q1868 : (Jvm.Cond.soleField "LakeLevels$3" "this$0") ∈ lw_all := lw_g (lw_at lw_m8 87 rfl) rfl
theorem q1869 : (Jvm.Cond.superclass "LakeLevels$3" "java/lang/Object") ∈ lw_all := lw_g (lw_at lw_m8 88 rfl) rfl
theorem q2548 : (Jvm.Cond.castable "LakeLevels$3" "java/lang/Object") ∈ lw_tbl := lw_at lw_m11 47 rfl
theorem in_X9 : ∀ w ∈ wsX90, w ∈ lw_all := lw_in wsX90 [1863, 1865, 1867] (by decide +kernel) (by decide +kernel)

/-! LakeLevels$Parser -/
set_option maxRecDepth 100000
def RX10 : String := "LakeLevels$Parser"
def TX10 : u_T := fun k => match k with
  | 0 => ("LakeLevels$Parser", "at", "I", false)
  | _ => ("LakeLevels$Parser", "this$0", "LLakeLevels;", true)
def tyX10 : Nat → FieldType := fun k => match k with
  | 0 => .int
  | _ => .object "LakeLevels"
abbrev wsX100 : List Cond := u_ws RX10 TX10 2
theorem nmX10 : ∀ a, a < 2 → ∀ b, b < 2 → a ≠ b → (TX10 a).2.1 ≠ (TX10 b).2.1 := by decide +kernel
theorem tyX10_ok : ∀ k, k < 2 → parseFieldDescriptor (TX10 k).2.2.1 = some (tyX10 k) := by decide +kernel
abbrev cX10_init : ByteArray := prog_9_method_1_code
def yX10_init : MethodName := ⟨RX10, "<init>", "(LLakeLevels;)V"⟩
def dkwX10_init_0 : List UInt8 := [42, 43, 181, 0, 3, 42, 183, 0, 9, 177]
abbrev dktX10_init_0 : List UInt8 := dkwX10_init_0 ++ []
theorem dksX10_init_0 : cX10_init.data.toList.drop 0 = dktX10_init_0 := by decide +kernel
theorem dX10_init_0 : decode cX10_init 0 = .ok (.aload_n 0, 1) := dk_42 (dk_at dksX10_init_0 0 rfl rfl)
theorem dX10_init_1 : decode cX10_init 1 = .ok (.aload_n 1, 1) := dk_43 (dk_at dksX10_init_0 1 rfl rfl)
theorem dX10_init_2 : decode cX10_init 2 = .ok (.putfield 3, 3) := dk_181 0 3 (dk_at dksX10_init_0 2 rfl rfl)
theorem dX10_init_5 : decode cX10_init 5 = .ok (.aload_n 0, 1) := dk_42 (dk_at dksX10_init_0 5 rfl rfl)
theorem dX10_init_6 : decode cX10_init 6 = .ok (.invokespecial 9, 3) := dk_183 0 9 (dk_at dksX10_init_0 6 rfl rfl)
theorem dX10_init_9 : decode cX10_init 9 = .ok (.return_, 1) := dk_177 (dk_at dksX10_init_0 9 rfl rfl)
abbrev cX10_parse : ByteArray := prog_9_method_9_code
def yX10_parse : MethodName := ⟨RX10, "parse", "()LLakeLevels$Land;"⟩
def dkwX10_parse_3 : List UInt8 := [180, 0, 3, 180, 0, 19, 162, 0, 11, 42, 44, 182, 0, 79, 167, 255, 237, 44, 176]
abbrev dktX10_parse_3 : List UInt8 := dkwX10_parse_3 ++ []
def dkwX10_parse_2 : List UInt8 := [180, 0, 75, 29, 42, 16, 99, 182, 0, 45, 79, 132, 3, 1, 167, 255, 218, 42, 180, 0, 15, 42]
abbrev dktX10_parse_2 : List UInt8 := dkwX10_parse_2 ++ dktX10_parse_3
def dkwX10_parse_1 : List UInt8 := [182, 0, 39, 162, 0, 36, 42, 29, 154, 0, 8, 16, 58, 167, 0, 5, 16, 44, 182, 0, 49, 44]
abbrev dktX10_parse_1 : List UInt8 := dkwX10_parse_1 ++ dktX10_parse_2
def dkwX10_parse_0 : List UInt8 := [42, 182, 0, 69, 60, 187, 0, 40, 89, 27, 42, 182, 0, 69, 183, 0, 72, 77, 3, 62, 29, 44]
abbrev dktX10_parse_0 : List UInt8 := dkwX10_parse_0 ++ dktX10_parse_1
theorem dksX10_parse_0 : cX10_parse.data.toList.drop 0 = dktX10_parse_0 := by decide +kernel
theorem dksX10_parse_1 : cX10_parse.data.toList.drop 22 = dktX10_parse_1 := dk_seg dksX10_parse_0 22 rfl rfl
theorem dksX10_parse_2 : cX10_parse.data.toList.drop 44 = dktX10_parse_2 := dk_seg dksX10_parse_1 22 rfl rfl
theorem dksX10_parse_3 : cX10_parse.data.toList.drop 66 = dktX10_parse_3 := dk_seg dksX10_parse_2 22 rfl rfl
theorem dX10_parse_0 : decode cX10_parse 0 = .ok (.aload_n 0, 1) := dk_42 (dk_at dksX10_parse_0 0 rfl rfl)
theorem dX10_parse_1 : decode cX10_parse 1 = .ok (.invokevirtual 69, 3) := dk_182 0 69 (dk_at dksX10_parse_0 1 rfl rfl)
theorem dX10_parse_4 : decode cX10_parse 4 = .ok (.istore_n 1, 1) := dk_60 (dk_at dksX10_parse_0 4 rfl rfl)
theorem dX10_parse_5 : decode cX10_parse 5 = .ok (.new 40, 3) := dk_187 0 40 (dk_at dksX10_parse_0 5 rfl rfl)
theorem dX10_parse_8 : decode cX10_parse 8 = .ok (.dup, 1) := dk_89 (dk_at dksX10_parse_0 8 rfl rfl)
theorem dX10_parse_9 : decode cX10_parse 9 = .ok (.iload_n 1, 1) := dk_27 (dk_at dksX10_parse_0 9 rfl rfl)
theorem dX10_parse_10 : decode cX10_parse 10 = .ok (.aload_n 0, 1) := dk_42 (dk_at dksX10_parse_0 10 rfl rfl)
theorem dX10_parse_11 : decode cX10_parse 11 = .ok (.invokevirtual 69, 3) := dk_182 0 69 (dk_at dksX10_parse_0 11 rfl rfl)
theorem dX10_parse_14 : decode cX10_parse 14 = .ok (.invokespecial 72, 3) := dk_183 0 72 (dk_at dksX10_parse_0 14 rfl rfl)
theorem dX10_parse_17 : decode cX10_parse 17 = .ok (.astore_n 2, 1) := dk_77 (dk_at dksX10_parse_0 17 rfl rfl)
theorem dX10_parse_18 : decode cX10_parse 18 = .ok (.iconst 0, 1) := dk_3 (dk_at dksX10_parse_0 18 rfl rfl)
theorem dX10_parse_19 : decode cX10_parse 19 = .ok (.istore_n 3, 1) := dk_62 (dk_at dksX10_parse_0 19 rfl rfl)
theorem dX10_parse_20 : decode cX10_parse 20 = .ok (.iload_n 3, 1) := dk_29 (dk_at dksX10_parse_0 20 rfl rfl)
theorem dX10_parse_21 : decode cX10_parse 21 = .ok (.aload_n 2, 1) := dk_44 (dk_at dksX10_parse_0 21 rfl rfl)
theorem dX10_parse_22 : decode cX10_parse 22 = .ok (.invokevirtual 39, 3) := dk_182 0 39 (dk_at dksX10_parse_1 0 rfl rfl)
theorem dX10_parse_25 : decode cX10_parse 25 = .ok (.if_icmp .ge 36, 3) := dk_162 0 36 (dk_at dksX10_parse_1 3 rfl rfl)
theorem dX10_parse_28 : decode cX10_parse 28 = .ok (.aload_n 0, 1) := dk_42 (dk_at dksX10_parse_1 6 rfl rfl)
theorem dX10_parse_29 : decode cX10_parse 29 = .ok (.iload_n 3, 1) := dk_29 (dk_at dksX10_parse_1 7 rfl rfl)
theorem dX10_parse_30 : decode cX10_parse 30 = .ok (.ifCond .ne 8, 3) := dk_154 0 8 (dk_at dksX10_parse_1 8 rfl rfl)
theorem dX10_parse_33 : decode cX10_parse 33 = .ok (.bipush 58, 2) := dk_16 58 (dk_at dksX10_parse_1 11 rfl rfl)
theorem dX10_parse_35 : decode cX10_parse 35 = .ok (.goto 5, 3) := dk_167 0 5 (dk_at dksX10_parse_1 13 rfl rfl)
theorem dX10_parse_38 : decode cX10_parse 38 = .ok (.bipush 44, 2) := dk_16 44 (dk_at dksX10_parse_1 16 rfl rfl)
theorem dX10_parse_40 : decode cX10_parse 40 = .ok (.invokevirtual 49, 3) := dk_182 0 49 (dk_at dksX10_parse_1 18 rfl rfl)
theorem dX10_parse_43 : decode cX10_parse 43 = .ok (.aload_n 2, 1) := dk_44 (dk_at dksX10_parse_1 21 rfl rfl)
theorem dX10_parse_44 : decode cX10_parse 44 = .ok (.getfield 75, 3) := dk_180 0 75 (dk_at dksX10_parse_2 0 rfl rfl)
theorem dX10_parse_47 : decode cX10_parse 47 = .ok (.iload_n 3, 1) := dk_29 (dk_at dksX10_parse_2 3 rfl rfl)
theorem dX10_parse_48 : decode cX10_parse 48 = .ok (.aload_n 0, 1) := dk_42 (dk_at dksX10_parse_2 4 rfl rfl)
theorem dX10_parse_49 : decode cX10_parse 49 = .ok (.bipush 99, 2) := dk_16 99 (dk_at dksX10_parse_2 5 rfl rfl)
theorem dX10_parse_51 : decode cX10_parse 51 = .ok (.invokevirtual 45, 3) := dk_182 0 45 (dk_at dksX10_parse_2 7 rfl rfl)
theorem dX10_parse_54 : decode cX10_parse 54 = .ok (.iastore, 1) := dk_79 (dk_at dksX10_parse_2 10 rfl rfl)
theorem dX10_parse_55 : decode cX10_parse 55 = .ok (.iinc 3 1, 3) := dk_132 3 1 (dk_at dksX10_parse_2 11 rfl rfl)
theorem dX10_parse_58 : decode cX10_parse 58 = .ok (.goto (-38), 3) := dk_167 255 218 (dk_at dksX10_parse_2 14 rfl rfl)
theorem dX10_parse_61 : decode cX10_parse 61 = .ok (.aload_n 0, 1) := dk_42 (dk_at dksX10_parse_2 17 rfl rfl)
theorem dX10_parse_62 : decode cX10_parse 62 = .ok (.getfield 15, 3) := dk_180 0 15 (dk_at dksX10_parse_2 18 rfl rfl)
theorem dX10_parse_65 : decode cX10_parse 65 = .ok (.aload_n 0, 1) := dk_42 (dk_at dksX10_parse_2 21 rfl rfl)
theorem dX10_parse_66 : decode cX10_parse 66 = .ok (.getfield 3, 3) := dk_180 0 3 (dk_at dksX10_parse_3 0 rfl rfl)
theorem dX10_parse_69 : decode cX10_parse 69 = .ok (.getfield 19, 3) := dk_180 0 19 (dk_at dksX10_parse_3 3 rfl rfl)
theorem dX10_parse_72 : decode cX10_parse 72 = .ok (.if_icmp .ge 11, 3) := dk_162 0 11 (dk_at dksX10_parse_3 6 rfl rfl)
theorem dX10_parse_75 : decode cX10_parse 75 = .ok (.aload_n 0, 1) := dk_42 (dk_at dksX10_parse_3 9 rfl rfl)
theorem dX10_parse_76 : decode cX10_parse 76 = .ok (.aload_n 2, 1) := dk_44 (dk_at dksX10_parse_3 10 rfl rfl)
theorem dX10_parse_77 : decode cX10_parse 77 = .ok (.invokevirtual 79, 3) := dk_182 0 79 (dk_at dksX10_parse_3 11 rfl rfl)
theorem dX10_parse_80 : decode cX10_parse 80 = .ok (.goto (-19), 3) := dk_167 255 237 (dk_at dksX10_parse_3 14 rfl rfl)
theorem dX10_parse_83 : decode cX10_parse 83 = .ok (.aload_n 2, 1) := dk_44 (dk_at dksX10_parse_3 17 rfl rfl)
theorem dX10_parse_84 : decode cX10_parse 84 = .ok (.areturn, 1) := dk_176 (dk_at dksX10_parse_3 18 rfl rfl)
abbrev cX10_side : ByteArray := prog_9_method_5_code
def yX10_side : MethodName := ⟨RX10, "side", "()I"⟩
def dkwX10_side_1 : List UInt8 := [181, 0, 15, 42, 180, 0, 3, 180, 0, 22, 42, 180, 0, 15, 4, 100, 51, 16, 48, 100, 172]
abbrev dktX10_side_1 : List UInt8 := dkwX10_side_1 ++ []
def dkwX10_side_0 : List UInt8 := [42, 42, 16, 49, 16, 54, 182, 0, 31, 42, 180, 0, 15, 182, 0, 35, 42, 89, 180, 0, 15, 4, 96]
abbrev dktX10_side_0 : List UInt8 := dkwX10_side_0 ++ dktX10_side_1
theorem dksX10_side_0 : cX10_side.data.toList.drop 0 = dktX10_side_0 := by decide +kernel
theorem dksX10_side_1 : cX10_side.data.toList.drop 23 = dktX10_side_1 := dk_seg dksX10_side_0 23 rfl rfl
theorem dX10_side_0 : decode cX10_side 0 = .ok (.aload_n 0, 1) := dk_42 (dk_at dksX10_side_0 0 rfl rfl)
theorem dX10_side_1 : decode cX10_side 1 = .ok (.aload_n 0, 1) := dk_42 (dk_at dksX10_side_0 1 rfl rfl)
theorem dX10_side_2 : decode cX10_side 2 = .ok (.bipush 49, 2) := dk_16 49 (dk_at dksX10_side_0 2 rfl rfl)
theorem dX10_side_4 : decode cX10_side 4 = .ok (.bipush 54, 2) := dk_16 54 (dk_at dksX10_side_0 4 rfl rfl)
theorem dX10_side_6 : decode cX10_side 6 = .ok (.invokevirtual 31, 3) := dk_182 0 31 (dk_at dksX10_side_0 6 rfl rfl)
theorem dX10_side_9 : decode cX10_side 9 = .ok (.aload_n 0, 1) := dk_42 (dk_at dksX10_side_0 9 rfl rfl)
theorem dX10_side_10 : decode cX10_side 10 = .ok (.getfield 15, 3) := dk_180 0 15 (dk_at dksX10_side_0 10 rfl rfl)
theorem dX10_side_13 : decode cX10_side 13 = .ok (.invokevirtual 35, 3) := dk_182 0 35 (dk_at dksX10_side_0 13 rfl rfl)
theorem dX10_side_16 : decode cX10_side 16 = .ok (.aload_n 0, 1) := dk_42 (dk_at dksX10_side_0 16 rfl rfl)
theorem dX10_side_17 : decode cX10_side 17 = .ok (.dup, 1) := dk_89 (dk_at dksX10_side_0 17 rfl rfl)
theorem dX10_side_18 : decode cX10_side 18 = .ok (.getfield 15, 3) := dk_180 0 15 (dk_at dksX10_side_0 18 rfl rfl)
theorem dX10_side_21 : decode cX10_side 21 = .ok (.iconst 1, 1) := dk_4 (dk_at dksX10_side_0 21 rfl rfl)
theorem dX10_side_22 : decode cX10_side 22 = .ok (.iadd, 1) := dk_96 (dk_at dksX10_side_0 22 rfl rfl)
theorem dX10_side_23 : decode cX10_side 23 = .ok (.putfield 15, 3) := dk_181 0 15 (dk_at dksX10_side_1 0 rfl rfl)
theorem dX10_side_26 : decode cX10_side 26 = .ok (.aload_n 0, 1) := dk_42 (dk_at dksX10_side_1 3 rfl rfl)
theorem dX10_side_27 : decode cX10_side 27 = .ok (.getfield 3, 3) := dk_180 0 3 (dk_at dksX10_side_1 4 rfl rfl)
theorem dX10_side_30 : decode cX10_side 30 = .ok (.getfield 22, 3) := dk_180 0 22 (dk_at dksX10_side_1 7 rfl rfl)
theorem dX10_side_33 : decode cX10_side 33 = .ok (.aload_n 0, 1) := dk_42 (dk_at dksX10_side_1 10 rfl rfl)
theorem dX10_side_34 : decode cX10_side 34 = .ok (.getfield 15, 3) := dk_180 0 15 (dk_at dksX10_side_1 11 rfl rfl)
theorem dX10_side_37 : decode cX10_side 37 = .ok (.iconst 1, 1) := dk_4 (dk_at dksX10_side_1 14 rfl rfl)
theorem dX10_side_38 : decode cX10_side 38 = .ok (.isub, 1) := dk_100 (dk_at dksX10_side_1 15 rfl rfl)
theorem dX10_side_39 : decode cX10_side 39 = .ok (.baload, 1) := dk_51 (dk_at dksX10_side_1 16 rfl rfl)
theorem dX10_side_40 : decode cX10_side 40 = .ok (.bipush 48, 2) := dk_16 48 (dk_at dksX10_side_1 17 rfl rfl)
theorem dX10_side_42 : decode cX10_side 42 = .ok (.isub, 1) := dk_100 (dk_at dksX10_side_1 19 rfl rfl)
theorem dX10_side_43 : decode cX10_side 43 = .ok (.ireturn, 1) := dk_172 (dk_at dksX10_side_1 20 rfl rfl)
abbrev cX10_isAt : ByteArray := prog_9_method_2_code
def yX10_isAt : MethodName := ⟨RX10, "isAt", "(CC)Z"⟩
def dkwX10_isAt_2 : List UInt8 := [4, 167, 0, 4, 3, 172]
abbrev dktX10_isAt_2 : List UInt8 := dkwX10_isAt_2 ++ []
def dkwX10_isAt_1 : List UInt8 := [180, 0, 15, 51, 27, 161, 0, 23, 42, 180, 0, 3, 180, 0, 22, 42, 180, 0, 15, 51, 28, 163, 0, 7]
abbrev dktX10_isAt_1 : List UInt8 := dkwX10_isAt_1 ++ dktX10_isAt_2
def dkwX10_isAt_0 : List UInt8 := [42, 180, 0, 15, 42, 180, 0, 3, 180, 0, 19, 162, 0, 39, 42, 180, 0, 3, 180, 0, 22, 42]
abbrev dktX10_isAt_0 : List UInt8 := dkwX10_isAt_0 ++ dktX10_isAt_1
theorem dksX10_isAt_0 : cX10_isAt.data.toList.drop 0 = dktX10_isAt_0 := by decide +kernel
theorem dksX10_isAt_1 : cX10_isAt.data.toList.drop 22 = dktX10_isAt_1 := dk_seg dksX10_isAt_0 22 rfl rfl
theorem dksX10_isAt_2 : cX10_isAt.data.toList.drop 46 = dktX10_isAt_2 := dk_seg dksX10_isAt_1 24 rfl rfl
theorem dX10_isAt_0 : decode cX10_isAt 0 = .ok (.aload_n 0, 1) := dk_42 (dk_at dksX10_isAt_0 0 rfl rfl)
theorem dX10_isAt_1 : decode cX10_isAt 1 = .ok (.getfield 15, 3) := dk_180 0 15 (dk_at dksX10_isAt_0 1 rfl rfl)
theorem dX10_isAt_4 : decode cX10_isAt 4 = .ok (.aload_n 0, 1) := dk_42 (dk_at dksX10_isAt_0 4 rfl rfl)
theorem dX10_isAt_5 : decode cX10_isAt 5 = .ok (.getfield 3, 3) := dk_180 0 3 (dk_at dksX10_isAt_0 5 rfl rfl)
theorem dX10_isAt_8 : decode cX10_isAt 8 = .ok (.getfield 19, 3) := dk_180 0 19 (dk_at dksX10_isAt_0 8 rfl rfl)
theorem dX10_isAt_11 : decode cX10_isAt 11 = .ok (.if_icmp .ge 39, 3) := dk_162 0 39 (dk_at dksX10_isAt_0 11 rfl rfl)
theorem dX10_isAt_14 : decode cX10_isAt 14 = .ok (.aload_n 0, 1) := dk_42 (dk_at dksX10_isAt_0 14 rfl rfl)
theorem dX10_isAt_15 : decode cX10_isAt 15 = .ok (.getfield 3, 3) := dk_180 0 3 (dk_at dksX10_isAt_0 15 rfl rfl)
theorem dX10_isAt_18 : decode cX10_isAt 18 = .ok (.getfield 22, 3) := dk_180 0 22 (dk_at dksX10_isAt_0 18 rfl rfl)
theorem dX10_isAt_21 : decode cX10_isAt 21 = .ok (.aload_n 0, 1) := dk_42 (dk_at dksX10_isAt_0 21 rfl rfl)
theorem dX10_isAt_22 : decode cX10_isAt 22 = .ok (.getfield 15, 3) := dk_180 0 15 (dk_at dksX10_isAt_1 0 rfl rfl)
theorem dX10_isAt_25 : decode cX10_isAt 25 = .ok (.baload, 1) := dk_51 (dk_at dksX10_isAt_1 3 rfl rfl)
theorem dX10_isAt_26 : decode cX10_isAt 26 = .ok (.iload_n 1, 1) := dk_27 (dk_at dksX10_isAt_1 4 rfl rfl)
theorem dX10_isAt_27 : decode cX10_isAt 27 = .ok (.if_icmp .lt 23, 3) := dk_161 0 23 (dk_at dksX10_isAt_1 5 rfl rfl)
theorem dX10_isAt_30 : decode cX10_isAt 30 = .ok (.aload_n 0, 1) := dk_42 (dk_at dksX10_isAt_1 8 rfl rfl)
theorem dX10_isAt_31 : decode cX10_isAt 31 = .ok (.getfield 3, 3) := dk_180 0 3 (dk_at dksX10_isAt_1 9 rfl rfl)
theorem dX10_isAt_34 : decode cX10_isAt 34 = .ok (.getfield 22, 3) := dk_180 0 22 (dk_at dksX10_isAt_1 12 rfl rfl)
theorem dX10_isAt_37 : decode cX10_isAt 37 = .ok (.aload_n 0, 1) := dk_42 (dk_at dksX10_isAt_1 15 rfl rfl)
theorem dX10_isAt_38 : decode cX10_isAt 38 = .ok (.getfield 15, 3) := dk_180 0 15 (dk_at dksX10_isAt_1 16 rfl rfl)
theorem dX10_isAt_41 : decode cX10_isAt 41 = .ok (.baload, 1) := dk_51 (dk_at dksX10_isAt_1 19 rfl rfl)
theorem dX10_isAt_42 : decode cX10_isAt 42 = .ok (.iload_n 2, 1) := dk_28 (dk_at dksX10_isAt_1 20 rfl rfl)
theorem dX10_isAt_43 : decode cX10_isAt 43 = .ok (.if_icmp .gt 7, 3) := dk_163 0 7 (dk_at dksX10_isAt_1 21 rfl rfl)
theorem dX10_isAt_46 : decode cX10_isAt 46 = .ok (.iconst 1, 1) := dk_4 (dk_at dksX10_isAt_2 0 rfl rfl)
theorem dX10_isAt_47 : decode cX10_isAt 47 = .ok (.goto 4, 3) := dk_167 0 4 (dk_at dksX10_isAt_2 1 rfl rfl)
theorem dX10_isAt_50 : decode cX10_isAt 50 = .ok (.iconst 0, 1) := dk_3 (dk_at dksX10_isAt_2 4 rfl rfl)
theorem dX10_isAt_51 : decode cX10_isAt 51 = .ok (.ireturn, 1) := dk_172 (dk_at dksX10_isAt_2 5 rfl rfl)
abbrev cX10_check : ByteArray := prog_9_method_3_code
def yX10_check : MethodName := ⟨RX10, "check", "(ZI)V"⟩
def dkwX10_check_0 : List UInt8 := [27, 154, 0, 12, 187, 0, 26, 89, 28, 183, 0, 28, 191, 177]
abbrev dktX10_check_0 : List UInt8 := dkwX10_check_0 ++ []
theorem dksX10_check_0 : cX10_check.data.toList.drop 0 = dktX10_check_0 := by decide +kernel
theorem dX10_check_0 : decode cX10_check 0 = .ok (.iload_n 1, 1) := dk_27 (dk_at dksX10_check_0 0 rfl rfl)
theorem dX10_check_1 : decode cX10_check 1 = .ok (.ifCond .ne 12, 3) := dk_154 0 12 (dk_at dksX10_check_0 1 rfl rfl)
theorem dX10_check_4 : decode cX10_check 4 = .ok (.new 26, 3) := dk_187 0 26 (dk_at dksX10_check_0 4 rfl rfl)
theorem dX10_check_7 : decode cX10_check 7 = .ok (.dup, 1) := dk_89 (dk_at dksX10_check_0 7 rfl rfl)
theorem dX10_check_8 : decode cX10_check 8 = .ok (.iload_n 2, 1) := dk_28 (dk_at dksX10_check_0 8 rfl rfl)
theorem dX10_check_9 : decode cX10_check 9 = .ok (.invokespecial 28, 3) := dk_183 0 28 (dk_at dksX10_check_0 9 rfl rfl)
theorem dX10_check_12 : decode cX10_check 12 = .ok (.athrow, 1) := dk_191 (dk_at dksX10_check_0 12 rfl rfl)
theorem dX10_check_13 : decode cX10_check 13 = .ok (.return_, 1) := dk_177 (dk_at dksX10_check_0 13 rfl rfl)
abbrev cX10_pass : ByteArray := prog_9_method_4_code
def yX10_pass : MethodName := ⟨RX10, "pass", "(C)V"⟩
def dkwX10_pass_1 : List UInt8 := [177]
abbrev dktX10_pass_1 : List UInt8 := dkwX10_pass_1 ++ []
def dkwX10_pass_0 : List UInt8 := [42, 42, 27, 27, 182, 0, 31, 42, 180, 0, 15, 182, 0, 35, 42, 89, 180, 0, 15, 4, 96, 181, 0, 15]
abbrev dktX10_pass_0 : List UInt8 := dkwX10_pass_0 ++ dktX10_pass_1
theorem dksX10_pass_0 : cX10_pass.data.toList.drop 0 = dktX10_pass_0 := by decide +kernel
theorem dksX10_pass_1 : cX10_pass.data.toList.drop 24 = dktX10_pass_1 := dk_seg dksX10_pass_0 24 rfl rfl
theorem dX10_pass_0 : decode cX10_pass 0 = .ok (.aload_n 0, 1) := dk_42 (dk_at dksX10_pass_0 0 rfl rfl)
theorem dX10_pass_1 : decode cX10_pass 1 = .ok (.aload_n 0, 1) := dk_42 (dk_at dksX10_pass_0 1 rfl rfl)
theorem dX10_pass_2 : decode cX10_pass 2 = .ok (.iload_n 1, 1) := dk_27 (dk_at dksX10_pass_0 2 rfl rfl)
theorem dX10_pass_3 : decode cX10_pass 3 = .ok (.iload_n 1, 1) := dk_27 (dk_at dksX10_pass_0 3 rfl rfl)
theorem dX10_pass_4 : decode cX10_pass 4 = .ok (.invokevirtual 31, 3) := dk_182 0 31 (dk_at dksX10_pass_0 4 rfl rfl)
theorem dX10_pass_7 : decode cX10_pass 7 = .ok (.aload_n 0, 1) := dk_42 (dk_at dksX10_pass_0 7 rfl rfl)
theorem dX10_pass_8 : decode cX10_pass 8 = .ok (.getfield 15, 3) := dk_180 0 15 (dk_at dksX10_pass_0 8 rfl rfl)
theorem dX10_pass_11 : decode cX10_pass 11 = .ok (.invokevirtual 35, 3) := dk_182 0 35 (dk_at dksX10_pass_0 11 rfl rfl)
theorem dX10_pass_14 : decode cX10_pass 14 = .ok (.aload_n 0, 1) := dk_42 (dk_at dksX10_pass_0 14 rfl rfl)
theorem dX10_pass_15 : decode cX10_pass 15 = .ok (.dup, 1) := dk_89 (dk_at dksX10_pass_0 15 rfl rfl)
theorem dX10_pass_16 : decode cX10_pass 16 = .ok (.getfield 15, 3) := dk_180 0 15 (dk_at dksX10_pass_0 16 rfl rfl)
theorem dX10_pass_19 : decode cX10_pass 19 = .ok (.iconst 1, 1) := dk_4 (dk_at dksX10_pass_0 19 rfl rfl)
theorem dX10_pass_20 : decode cX10_pass 20 = .ok (.iadd, 1) := dk_96 (dk_at dksX10_pass_0 20 rfl rfl)
theorem dX10_pass_21 : decode cX10_pass 21 = .ok (.putfield 15, 3) := dk_181 0 15 (dk_at dksX10_pass_0 21 rfl rfl)
theorem dX10_pass_24 : decode cX10_pass 24 = .ok (.return_, 1) := dk_177 (dk_at dksX10_pass_1 0 rfl rfl)
abbrev cX10_number : ByteArray := prog_9_method_6_code
def yX10_number : MethodName := ⟨RX10, "number", "(I)I"⟩
def dkwX10_number_4 : List UInt8 := [27, 163, 0, 7, 4, 167, 0, 4, 3, 28, 182, 0, 35, 29, 172]
abbrev dktX10_number_4 : List UInt8 := dkwX10_number_4 ++ []
def dkwX10_number_3 : List UInt8 := [180, 0, 15, 51, 96, 16, 48, 100, 62, 42, 89, 180, 0, 15, 4, 96, 181, 0, 15, 167, 255, 191, 42, 29]
abbrev dktX10_number_3 : List UInt8 := dkwX10_number_3 ++ dktX10_number_4
def dkwX10_number_2 : List UInt8 := [167, 0, 4, 3, 42, 180, 0, 15, 182, 0, 35, 16, 10, 29, 104, 42, 180, 0, 3, 180, 0, 22, 42]
abbrev dktX10_number_2 : List UInt8 := dkwX10_number_2 ++ dktX10_number_3
def dkwX10_number_1 : List UInt8 := [16, 48, 16, 57, 182, 0, 31, 153, 0, 60, 42, 42, 180, 0, 15, 28, 5, 96, 162, 0, 7, 4]
abbrev dktX10_number_1 : List UInt8 := dkwX10_number_1 ++ dktX10_number_2
def dkwX10_number_0 : List UInt8 := [42, 180, 0, 15, 61, 42, 42, 16, 48, 16, 57, 182, 0, 31, 42, 180, 0, 15, 182, 0, 35, 3, 62, 42]
abbrev dktX10_number_0 : List UInt8 := dkwX10_number_0 ++ dktX10_number_1
theorem dksX10_number_0 : cX10_number.data.toList.drop 0 = dktX10_number_0 := by decide +kernel
theorem dksX10_number_1 : cX10_number.data.toList.drop 24 = dktX10_number_1 := dk_seg dksX10_number_0 24 rfl rfl
theorem dksX10_number_2 : cX10_number.data.toList.drop 46 = dktX10_number_2 := dk_seg dksX10_number_1 22 rfl rfl
theorem dksX10_number_3 : cX10_number.data.toList.drop 69 = dktX10_number_3 := dk_seg dksX10_number_2 23 rfl rfl
theorem dksX10_number_4 : cX10_number.data.toList.drop 93 = dktX10_number_4 := dk_seg dksX10_number_3 24 rfl rfl
theorem dX10_number_0 : decode cX10_number 0 = .ok (.aload_n 0, 1) := dk_42 (dk_at dksX10_number_0 0 rfl rfl)
theorem dX10_number_1 : decode cX10_number 1 = .ok (.getfield 15, 3) := dk_180 0 15 (dk_at dksX10_number_0 1 rfl rfl)
theorem dX10_number_4 : decode cX10_number 4 = .ok (.istore_n 2, 1) := dk_61 (dk_at dksX10_number_0 4 rfl rfl)
theorem dX10_number_5 : decode cX10_number 5 = .ok (.aload_n 0, 1) := dk_42 (dk_at dksX10_number_0 5 rfl rfl)
theorem dX10_number_6 : decode cX10_number 6 = .ok (.aload_n 0, 1) := dk_42 (dk_at dksX10_number_0 6 rfl rfl)
theorem dX10_number_7 : decode cX10_number 7 = .ok (.bipush 48, 2) := dk_16 48 (dk_at dksX10_number_0 7 rfl rfl)
theorem dX10_number_9 : decode cX10_number 9 = .ok (.bipush 57, 2) := dk_16 57 (dk_at dksX10_number_0 9 rfl rfl)
theorem dX10_number_11 : decode cX10_number 11 = .ok (.invokevirtual 31, 3) := dk_182 0 31 (dk_at dksX10_number_0 11 rfl rfl)
theorem dX10_number_14 : decode cX10_number 14 = .ok (.aload_n 0, 1) := dk_42 (dk_at dksX10_number_0 14 rfl rfl)
theorem dX10_number_15 : decode cX10_number 15 = .ok (.getfield 15, 3) := dk_180 0 15 (dk_at dksX10_number_0 15 rfl rfl)
theorem dX10_number_18 : decode cX10_number 18 = .ok (.invokevirtual 35, 3) := dk_182 0 35 (dk_at dksX10_number_0 18 rfl rfl)
theorem dX10_number_21 : decode cX10_number 21 = .ok (.iconst 0, 1) := dk_3 (dk_at dksX10_number_0 21 rfl rfl)
theorem dX10_number_22 : decode cX10_number 22 = .ok (.istore_n 3, 1) := dk_62 (dk_at dksX10_number_0 22 rfl rfl)
theorem dX10_number_23 : decode cX10_number 23 = .ok (.aload_n 0, 1) := dk_42 (dk_at dksX10_number_0 23 rfl rfl)
theorem dX10_number_24 : decode cX10_number 24 = .ok (.bipush 48, 2) := dk_16 48 (dk_at dksX10_number_1 0 rfl rfl)
theorem dX10_number_26 : decode cX10_number 26 = .ok (.bipush 57, 2) := dk_16 57 (dk_at dksX10_number_1 2 rfl rfl)
theorem dX10_number_28 : decode cX10_number 28 = .ok (.invokevirtual 31, 3) := dk_182 0 31 (dk_at dksX10_number_1 4 rfl rfl)
theorem dX10_number_31 : decode cX10_number 31 = .ok (.ifCond .eq 60, 3) := dk_153 0 60 (dk_at dksX10_number_1 7 rfl rfl)
theorem dX10_number_34 : decode cX10_number 34 = .ok (.aload_n 0, 1) := dk_42 (dk_at dksX10_number_1 10 rfl rfl)
theorem dX10_number_35 : decode cX10_number 35 = .ok (.aload_n 0, 1) := dk_42 (dk_at dksX10_number_1 11 rfl rfl)
theorem dX10_number_36 : decode cX10_number 36 = .ok (.getfield 15, 3) := dk_180 0 15 (dk_at dksX10_number_1 12 rfl rfl)
theorem dX10_number_39 : decode cX10_number 39 = .ok (.iload_n 2, 1) := dk_28 (dk_at dksX10_number_1 15 rfl rfl)
theorem dX10_number_40 : decode cX10_number 40 = .ok (.iconst 2, 1) := dk_5 (dk_at dksX10_number_1 16 rfl rfl)
theorem dX10_number_41 : decode cX10_number 41 = .ok (.iadd, 1) := dk_96 (dk_at dksX10_number_1 17 rfl rfl)
theorem dX10_number_42 : decode cX10_number 42 = .ok (.if_icmp .ge 7, 3) := dk_162 0 7 (dk_at dksX10_number_1 18 rfl rfl)
theorem dX10_number_45 : decode cX10_number 45 = .ok (.iconst 1, 1) := dk_4 (dk_at dksX10_number_1 21 rfl rfl)
theorem dX10_number_46 : decode cX10_number 46 = .ok (.goto 4, 3) := dk_167 0 4 (dk_at dksX10_number_2 0 rfl rfl)
theorem dX10_number_49 : decode cX10_number 49 = .ok (.iconst 0, 1) := dk_3 (dk_at dksX10_number_2 3 rfl rfl)
theorem dX10_number_50 : decode cX10_number 50 = .ok (.aload_n 0, 1) := dk_42 (dk_at dksX10_number_2 4 rfl rfl)
theorem dX10_number_51 : decode cX10_number 51 = .ok (.getfield 15, 3) := dk_180 0 15 (dk_at dksX10_number_2 5 rfl rfl)
theorem dX10_number_54 : decode cX10_number 54 = .ok (.invokevirtual 35, 3) := dk_182 0 35 (dk_at dksX10_number_2 8 rfl rfl)
theorem dX10_number_57 : decode cX10_number 57 = .ok (.bipush 10, 2) := dk_16 10 (dk_at dksX10_number_2 11 rfl rfl)
theorem dX10_number_59 : decode cX10_number 59 = .ok (.iload_n 3, 1) := dk_29 (dk_at dksX10_number_2 13 rfl rfl)
theorem dX10_number_60 : decode cX10_number 60 = .ok (.imul, 1) := dk_104 (dk_at dksX10_number_2 14 rfl rfl)
theorem dX10_number_61 : decode cX10_number 61 = .ok (.aload_n 0, 1) := dk_42 (dk_at dksX10_number_2 15 rfl rfl)
theorem dX10_number_62 : decode cX10_number 62 = .ok (.getfield 3, 3) := dk_180 0 3 (dk_at dksX10_number_2 16 rfl rfl)
theorem dX10_number_65 : decode cX10_number 65 = .ok (.getfield 22, 3) := dk_180 0 22 (dk_at dksX10_number_2 19 rfl rfl)
theorem dX10_number_68 : decode cX10_number 68 = .ok (.aload_n 0, 1) := dk_42 (dk_at dksX10_number_2 22 rfl rfl)
theorem dX10_number_69 : decode cX10_number 69 = .ok (.getfield 15, 3) := dk_180 0 15 (dk_at dksX10_number_3 0 rfl rfl)
theorem dX10_number_72 : decode cX10_number 72 = .ok (.baload, 1) := dk_51 (dk_at dksX10_number_3 3 rfl rfl)
theorem dX10_number_73 : decode cX10_number 73 = .ok (.iadd, 1) := dk_96 (dk_at dksX10_number_3 4 rfl rfl)
theorem dX10_number_74 : decode cX10_number 74 = .ok (.bipush 48, 2) := dk_16 48 (dk_at dksX10_number_3 5 rfl rfl)
theorem dX10_number_76 : decode cX10_number 76 = .ok (.isub, 1) := dk_100 (dk_at dksX10_number_3 7 rfl rfl)
theorem dX10_number_77 : decode cX10_number 77 = .ok (.istore_n 3, 1) := dk_62 (dk_at dksX10_number_3 8 rfl rfl)
theorem dX10_number_78 : decode cX10_number 78 = .ok (.aload_n 0, 1) := dk_42 (dk_at dksX10_number_3 9 rfl rfl)
theorem dX10_number_79 : decode cX10_number 79 = .ok (.dup, 1) := dk_89 (dk_at dksX10_number_3 10 rfl rfl)
theorem dX10_number_80 : decode cX10_number 80 = .ok (.getfield 15, 3) := dk_180 0 15 (dk_at dksX10_number_3 11 rfl rfl)
theorem dX10_number_83 : decode cX10_number 83 = .ok (.iconst 1, 1) := dk_4 (dk_at dksX10_number_3 14 rfl rfl)
theorem dX10_number_84 : decode cX10_number 84 = .ok (.iadd, 1) := dk_96 (dk_at dksX10_number_3 15 rfl rfl)
theorem dX10_number_85 : decode cX10_number 85 = .ok (.putfield 15, 3) := dk_181 0 15 (dk_at dksX10_number_3 16 rfl rfl)
theorem dX10_number_88 : decode cX10_number 88 = .ok (.goto (-65), 3) := dk_167 255 191 (dk_at dksX10_number_3 19 rfl rfl)
theorem dX10_number_91 : decode cX10_number 91 = .ok (.aload_n 0, 1) := dk_42 (dk_at dksX10_number_3 22 rfl rfl)
theorem dX10_number_92 : decode cX10_number 92 = .ok (.iload_n 3, 1) := dk_29 (dk_at dksX10_number_3 23 rfl rfl)
theorem dX10_number_93 : decode cX10_number 93 = .ok (.iload_n 1, 1) := dk_27 (dk_at dksX10_number_4 0 rfl rfl)
theorem dX10_number_94 : decode cX10_number 94 = .ok (.if_icmp .gt 7, 3) := dk_163 0 7 (dk_at dksX10_number_4 1 rfl rfl)
theorem dX10_number_97 : decode cX10_number 97 = .ok (.iconst 1, 1) := dk_4 (dk_at dksX10_number_4 4 rfl rfl)
theorem dX10_number_98 : decode cX10_number 98 = .ok (.goto 4, 3) := dk_167 0 4 (dk_at dksX10_number_4 5 rfl rfl)
theorem dX10_number_101 : decode cX10_number 101 = .ok (.iconst 0, 1) := dk_3 (dk_at dksX10_number_4 8 rfl rfl)
theorem dX10_number_102 : decode cX10_number 102 = .ok (.iload_n 2, 1) := dk_28 (dk_at dksX10_number_4 9 rfl rfl)
theorem dX10_number_103 : decode cX10_number 103 = .ok (.invokevirtual 35, 3) := dk_182 0 35 (dk_at dksX10_number_4 10 rfl rfl)
theorem dX10_number_106 : decode cX10_number 106 = .ok (.iload_n 3, 1) := dk_29 (dk_at dksX10_number_4 13 rfl rfl)
theorem dX10_number_107 : decode cX10_number 107 = .ok (.ireturn, 1) := dk_172 (dk_at dksX10_number_4 14 rfl rfl)
abbrev cX10_item : ByteArray := prog_9_method_8_code
def yX10_item : MethodName := ⟨RX10, "item", "(LLakeLevels$Land;)V"⟩
def dkwX10_item_3 : List UInt8 := [180, 0, 65, 10, 42, 43, 182, 0, 39, 4, 100, 182, 0, 45, 121, 129, 181, 0, 65, 177]
abbrev dktX10_item_3 : List UInt8 := dkwX10_item_3 ++ []
def dkwX10_item_2 : List UInt8 := [180, 0, 15, 4, 96, 181, 0, 15, 28, 153, 0, 11, 42, 43, 182, 0, 61, 167, 0, 24, 43, 89]
abbrev dktX10_item_2 : List UInt8 := dkwX10_item_2 ++ dktX10_item_3
def dkwX10_item_1 : List UInt8 := [16, 100, 182, 0, 31, 153, 0, 7, 4, 167, 0, 4, 3, 42, 180, 0, 15, 182, 0, 35, 42, 89]
abbrev dktX10_item_1 : List UInt8 := dkwX10_item_1 ++ dktX10_item_2
def dkwX10_item_0 : List UInt8 := [42, 16, 59, 182, 0, 49, 42, 16, 103, 16, 103, 182, 0, 31, 61, 42, 28, 154, 0, 14, 42, 16, 100]
abbrev dktX10_item_0 : List UInt8 := dkwX10_item_0 ++ dktX10_item_1
theorem dksX10_item_0 : cX10_item.data.toList.drop 0 = dktX10_item_0 := by decide +kernel
theorem dksX10_item_1 : cX10_item.data.toList.drop 23 = dktX10_item_1 := dk_seg dksX10_item_0 23 rfl rfl
theorem dksX10_item_2 : cX10_item.data.toList.drop 45 = dktX10_item_2 := dk_seg dksX10_item_1 22 rfl rfl
theorem dksX10_item_3 : cX10_item.data.toList.drop 67 = dktX10_item_3 := dk_seg dksX10_item_2 22 rfl rfl
theorem dX10_item_0 : decode cX10_item 0 = .ok (.aload_n 0, 1) := dk_42 (dk_at dksX10_item_0 0 rfl rfl)
theorem dX10_item_1 : decode cX10_item 1 = .ok (.bipush 59, 2) := dk_16 59 (dk_at dksX10_item_0 1 rfl rfl)
theorem dX10_item_3 : decode cX10_item 3 = .ok (.invokevirtual 49, 3) := dk_182 0 49 (dk_at dksX10_item_0 3 rfl rfl)
theorem dX10_item_6 : decode cX10_item 6 = .ok (.aload_n 0, 1) := dk_42 (dk_at dksX10_item_0 6 rfl rfl)
theorem dX10_item_7 : decode cX10_item 7 = .ok (.bipush 103, 2) := dk_16 103 (dk_at dksX10_item_0 7 rfl rfl)
theorem dX10_item_9 : decode cX10_item 9 = .ok (.bipush 103, 2) := dk_16 103 (dk_at dksX10_item_0 9 rfl rfl)
theorem dX10_item_11 : decode cX10_item 11 = .ok (.invokevirtual 31, 3) := dk_182 0 31 (dk_at dksX10_item_0 11 rfl rfl)
theorem dX10_item_14 : decode cX10_item 14 = .ok (.istore_n 2, 1) := dk_61 (dk_at dksX10_item_0 14 rfl rfl)
theorem dX10_item_15 : decode cX10_item 15 = .ok (.aload_n 0, 1) := dk_42 (dk_at dksX10_item_0 15 rfl rfl)
theorem dX10_item_16 : decode cX10_item 16 = .ok (.iload_n 2, 1) := dk_28 (dk_at dksX10_item_0 16 rfl rfl)
theorem dX10_item_17 : decode cX10_item 17 = .ok (.ifCond .ne 14, 3) := dk_154 0 14 (dk_at dksX10_item_0 17 rfl rfl)
theorem dX10_item_20 : decode cX10_item 20 = .ok (.aload_n 0, 1) := dk_42 (dk_at dksX10_item_0 20 rfl rfl)
theorem dX10_item_21 : decode cX10_item 21 = .ok (.bipush 100, 2) := dk_16 100 (dk_at dksX10_item_0 21 rfl rfl)
theorem dX10_item_23 : decode cX10_item 23 = .ok (.bipush 100, 2) := dk_16 100 (dk_at dksX10_item_1 0 rfl rfl)
theorem dX10_item_25 : decode cX10_item 25 = .ok (.invokevirtual 31, 3) := dk_182 0 31 (dk_at dksX10_item_1 2 rfl rfl)
theorem dX10_item_28 : decode cX10_item 28 = .ok (.ifCond .eq 7, 3) := dk_153 0 7 (dk_at dksX10_item_1 5 rfl rfl)
theorem dX10_item_31 : decode cX10_item 31 = .ok (.iconst 1, 1) := dk_4 (dk_at dksX10_item_1 8 rfl rfl)
theorem dX10_item_32 : decode cX10_item 32 = .ok (.goto 4, 3) := dk_167 0 4 (dk_at dksX10_item_1 9 rfl rfl)
theorem dX10_item_35 : decode cX10_item 35 = .ok (.iconst 0, 1) := dk_3 (dk_at dksX10_item_1 12 rfl rfl)
theorem dX10_item_36 : decode cX10_item 36 = .ok (.aload_n 0, 1) := dk_42 (dk_at dksX10_item_1 13 rfl rfl)
theorem dX10_item_37 : decode cX10_item 37 = .ok (.getfield 15, 3) := dk_180 0 15 (dk_at dksX10_item_1 14 rfl rfl)
theorem dX10_item_40 : decode cX10_item 40 = .ok (.invokevirtual 35, 3) := dk_182 0 35 (dk_at dksX10_item_1 17 rfl rfl)
theorem dX10_item_43 : decode cX10_item 43 = .ok (.aload_n 0, 1) := dk_42 (dk_at dksX10_item_1 20 rfl rfl)
theorem dX10_item_44 : decode cX10_item 44 = .ok (.dup, 1) := dk_89 (dk_at dksX10_item_1 21 rfl rfl)
theorem dX10_item_45 : decode cX10_item 45 = .ok (.getfield 15, 3) := dk_180 0 15 (dk_at dksX10_item_2 0 rfl rfl)
theorem dX10_item_48 : decode cX10_item 48 = .ok (.iconst 1, 1) := dk_4 (dk_at dksX10_item_2 3 rfl rfl)
theorem dX10_item_49 : decode cX10_item 49 = .ok (.iadd, 1) := dk_96 (dk_at dksX10_item_2 4 rfl rfl)
theorem dX10_item_50 : decode cX10_item 50 = .ok (.putfield 15, 3) := dk_181 0 15 (dk_at dksX10_item_2 5 rfl rfl)
theorem dX10_item_53 : decode cX10_item 53 = .ok (.iload_n 2, 1) := dk_28 (dk_at dksX10_item_2 8 rfl rfl)
theorem dX10_item_54 : decode cX10_item 54 = .ok (.ifCond .eq 11, 3) := dk_153 0 11 (dk_at dksX10_item_2 9 rfl rfl)
theorem dX10_item_57 : decode cX10_item 57 = .ok (.aload_n 0, 1) := dk_42 (dk_at dksX10_item_2 12 rfl rfl)
theorem dX10_item_58 : decode cX10_item 58 = .ok (.aload_n 1, 1) := dk_43 (dk_at dksX10_item_2 13 rfl rfl)
theorem dX10_item_59 : decode cX10_item 59 = .ok (.invokevirtual 61, 3) := dk_182 0 61 (dk_at dksX10_item_2 14 rfl rfl)
theorem dX10_item_62 : decode cX10_item 62 = .ok (.goto 24, 3) := dk_167 0 24 (dk_at dksX10_item_2 17 rfl rfl)
theorem dX10_item_65 : decode cX10_item 65 = .ok (.aload_n 1, 1) := dk_43 (dk_at dksX10_item_2 20 rfl rfl)
theorem dX10_item_66 : decode cX10_item 66 = .ok (.dup, 1) := dk_89 (dk_at dksX10_item_2 21 rfl rfl)
theorem dX10_item_67 : decode cX10_item 67 = .ok (.getfield 65, 3) := dk_180 0 65 (dk_at dksX10_item_3 0 rfl rfl)
theorem dX10_item_70 : decode cX10_item 70 = .ok (.lconst 1, 1) := dk_10 (dk_at dksX10_item_3 3 rfl rfl)
theorem dX10_item_71 : decode cX10_item 71 = .ok (.aload_n 0, 1) := dk_42 (dk_at dksX10_item_3 4 rfl rfl)
theorem dX10_item_72 : decode cX10_item 72 = .ok (.aload_n 1, 1) := dk_43 (dk_at dksX10_item_3 5 rfl rfl)
theorem dX10_item_73 : decode cX10_item 73 = .ok (.invokevirtual 39, 3) := dk_182 0 39 (dk_at dksX10_item_3 6 rfl rfl)
theorem dX10_item_76 : decode cX10_item 76 = .ok (.iconst 1, 1) := dk_4 (dk_at dksX10_item_3 9 rfl rfl)
theorem dX10_item_77 : decode cX10_item 77 = .ok (.isub, 1) := dk_100 (dk_at dksX10_item_3 10 rfl rfl)
theorem dX10_item_78 : decode cX10_item 78 = .ok (.invokevirtual 45, 3) := dk_182 0 45 (dk_at dksX10_item_3 11 rfl rfl)
theorem dX10_item_81 : decode cX10_item 81 = .ok (.lshl, 1) := dk_121 (dk_at dksX10_item_3 14 rfl rfl)
theorem dX10_item_82 : decode cX10_item 82 = .ok (.lor, 1) := dk_129 (dk_at dksX10_item_3 15 rfl rfl)
theorem dX10_item_83 : decode cX10_item 83 = .ok (.putfield 65, 3) := dk_181 0 65 (dk_at dksX10_item_3 16 rfl rfl)
theorem dX10_item_86 : decode cX10_item 86 = .ok (.return_, 1) := dk_177 (dk_at dksX10_item_3 19 rfl rfl)
abbrev cX10_gate : ByteArray := prog_9_method_7_code
def yX10_gate : MethodName := ⟨RX10, "gate", "(LLakeLevels$Land;)V"⟩
def dkwX10_gate_2 : List UInt8 := [16, 44, 182, 0, 49, 43, 28, 21, 4, 42, 16, 99, 182, 0, 45, 182, 0, 57, 177]
abbrev dktX10_gate_2 : List UInt8 := dkwX10_gate_2 ++ []
def dkwX10_gate_1 : List UInt8 := [182, 0, 39, 4, 100, 182, 0, 45, 54, 4, 42, 43, 28, 21, 4, 182, 0, 53, 29, 182, 0, 35, 42]
abbrev dktX10_gate_1 : List UInt8 := dkwX10_gate_1 ++ dktX10_gate_2
def dkwX10_gate_0 : List UInt8 := [42, 43, 182, 0, 39, 4, 100, 182, 0, 45, 61, 42, 16, 44, 182, 0, 49, 42, 180, 0, 15, 62, 42, 43]
abbrev dktX10_gate_0 : List UInt8 := dkwX10_gate_0 ++ dktX10_gate_1
theorem dksX10_gate_0 : cX10_gate.data.toList.drop 0 = dktX10_gate_0 := by decide +kernel
theorem dksX10_gate_1 : cX10_gate.data.toList.drop 24 = dktX10_gate_1 := dk_seg dksX10_gate_0 24 rfl rfl
theorem dksX10_gate_2 : cX10_gate.data.toList.drop 47 = dktX10_gate_2 := dk_seg dksX10_gate_1 23 rfl rfl
theorem dX10_gate_0 : decode cX10_gate 0 = .ok (.aload_n 0, 1) := dk_42 (dk_at dksX10_gate_0 0 rfl rfl)
theorem dX10_gate_1 : decode cX10_gate 1 = .ok (.aload_n 1, 1) := dk_43 (dk_at dksX10_gate_0 1 rfl rfl)
theorem dX10_gate_2 : decode cX10_gate 2 = .ok (.invokevirtual 39, 3) := dk_182 0 39 (dk_at dksX10_gate_0 2 rfl rfl)
theorem dX10_gate_5 : decode cX10_gate 5 = .ok (.iconst 1, 1) := dk_4 (dk_at dksX10_gate_0 5 rfl rfl)
theorem dX10_gate_6 : decode cX10_gate 6 = .ok (.isub, 1) := dk_100 (dk_at dksX10_gate_0 6 rfl rfl)
theorem dX10_gate_7 : decode cX10_gate 7 = .ok (.invokevirtual 45, 3) := dk_182 0 45 (dk_at dksX10_gate_0 7 rfl rfl)
theorem dX10_gate_10 : decode cX10_gate 10 = .ok (.istore_n 2, 1) := dk_61 (dk_at dksX10_gate_0 10 rfl rfl)
theorem dX10_gate_11 : decode cX10_gate 11 = .ok (.aload_n 0, 1) := dk_42 (dk_at dksX10_gate_0 11 rfl rfl)
theorem dX10_gate_12 : decode cX10_gate 12 = .ok (.bipush 44, 2) := dk_16 44 (dk_at dksX10_gate_0 12 rfl rfl)
theorem dX10_gate_14 : decode cX10_gate 14 = .ok (.invokevirtual 49, 3) := dk_182 0 49 (dk_at dksX10_gate_0 14 rfl rfl)
theorem dX10_gate_17 : decode cX10_gate 17 = .ok (.aload_n 0, 1) := dk_42 (dk_at dksX10_gate_0 17 rfl rfl)
theorem dX10_gate_18 : decode cX10_gate 18 = .ok (.getfield 15, 3) := dk_180 0 15 (dk_at dksX10_gate_0 18 rfl rfl)
theorem dX10_gate_21 : decode cX10_gate 21 = .ok (.istore_n 3, 1) := dk_62 (dk_at dksX10_gate_0 21 rfl rfl)
theorem dX10_gate_22 : decode cX10_gate 22 = .ok (.aload_n 0, 1) := dk_42 (dk_at dksX10_gate_0 22 rfl rfl)
theorem dX10_gate_23 : decode cX10_gate 23 = .ok (.aload_n 1, 1) := dk_43 (dk_at dksX10_gate_0 23 rfl rfl)
theorem dX10_gate_24 : decode cX10_gate 24 = .ok (.invokevirtual 39, 3) := dk_182 0 39 (dk_at dksX10_gate_1 0 rfl rfl)
theorem dX10_gate_27 : decode cX10_gate 27 = .ok (.iconst 1, 1) := dk_4 (dk_at dksX10_gate_1 3 rfl rfl)
theorem dX10_gate_28 : decode cX10_gate 28 = .ok (.isub, 1) := dk_100 (dk_at dksX10_gate_1 4 rfl rfl)
theorem dX10_gate_29 : decode cX10_gate 29 = .ok (.invokevirtual 45, 3) := dk_182 0 45 (dk_at dksX10_gate_1 5 rfl rfl)
theorem dX10_gate_32 : decode cX10_gate 32 = .ok (.istore 4, 2) := dk_54 4 (dk_at dksX10_gate_1 8 rfl rfl)
theorem dX10_gate_34 : decode cX10_gate 34 = .ok (.aload_n 0, 1) := dk_42 (dk_at dksX10_gate_1 10 rfl rfl)
theorem dX10_gate_35 : decode cX10_gate 35 = .ok (.aload_n 1, 1) := dk_43 (dk_at dksX10_gate_1 11 rfl rfl)
theorem dX10_gate_36 : decode cX10_gate 36 = .ok (.iload_n 2, 1) := dk_28 (dk_at dksX10_gate_1 12 rfl rfl)
theorem dX10_gate_37 : decode cX10_gate 37 = .ok (.iload 4, 2) := dk_21 4 (dk_at dksX10_gate_1 13 rfl rfl)
theorem dX10_gate_39 : decode cX10_gate 39 = .ok (.invokevirtual 53, 3) := dk_182 0 53 (dk_at dksX10_gate_1 15 rfl rfl)
theorem dX10_gate_42 : decode cX10_gate 42 = .ok (.iload_n 3, 1) := dk_29 (dk_at dksX10_gate_1 18 rfl rfl)
theorem dX10_gate_43 : decode cX10_gate 43 = .ok (.invokevirtual 35, 3) := dk_182 0 35 (dk_at dksX10_gate_1 19 rfl rfl)
theorem dX10_gate_46 : decode cX10_gate 46 = .ok (.aload_n 0, 1) := dk_42 (dk_at dksX10_gate_1 22 rfl rfl)
theorem dX10_gate_47 : decode cX10_gate 47 = .ok (.bipush 44, 2) := dk_16 44 (dk_at dksX10_gate_2 0 rfl rfl)
theorem dX10_gate_49 : decode cX10_gate 49 = .ok (.invokevirtual 49, 3) := dk_182 0 49 (dk_at dksX10_gate_2 2 rfl rfl)
theorem dX10_gate_52 : decode cX10_gate 52 = .ok (.aload_n 1, 1) := dk_43 (dk_at dksX10_gate_2 5 rfl rfl)
theorem dX10_gate_53 : decode cX10_gate 53 = .ok (.iload_n 2, 1) := dk_28 (dk_at dksX10_gate_2 6 rfl rfl)
theorem dX10_gate_54 : decode cX10_gate 54 = .ok (.iload 4, 2) := dk_21 4 (dk_at dksX10_gate_2 7 rfl rfl)
theorem dX10_gate_56 : decode cX10_gate 56 = .ok (.aload_n 0, 1) := dk_42 (dk_at dksX10_gate_2 9 rfl rfl)
theorem dX10_gate_57 : decode cX10_gate 57 = .ok (.bipush 99, 2) := dk_16 99 (dk_at dksX10_gate_2 10 rfl rfl)
theorem dX10_gate_59 : decode cX10_gate 59 = .ok (.invokevirtual 45, 3) := dk_182 0 45 (dk_at dksX10_gate_2 12 rfl rfl)
theorem dX10_gate_62 : decode cX10_gate 62 = .ok (.invokevirtual 57, 3) := dk_182 0 57 (dk_at dksX10_gate_2 15 rfl rfl)
theorem dX10_gate_65 : decode cX10_gate 65 = .ok (.return_, 1) := dk_177 (dk_at dksX10_gate_2 18 rfl rfl)
theorem q147 : (Jvm.Cond.initialized "LakeLevels$Parser") ∈ lw_all := lw_g (lw_at lw_m1 46 rfl) rfl
theorem q174 : (Jvm.Cond.fieldLinkNest "LakeLevels$Parser" (75 : Nat) "LakeLevels$Land" "heights" "[I" "LakeLevels") ∈ lw_tbl := lw_at lw_m1 73 rfl
theorem q179 : (Jvm.Cond.fieldLinkNest "LakeLevels$Parser" (65 : Nat) "LakeLevels$Land" "drains" "J" "LakeLevels") ∈ lw_tbl := lw_at lw_m1 78 rfl
theorem q448 : (Jvm.Cond.selects "LakeLevels$Parser" ({ cls := "java/lang/Object", name := "getClass", desc := "()Ljava/lang/Class;" } : Jvm.MethodName) ({ cls := "java/lang/Object", name := "getClass", desc := "()Ljava/lang/Class;" } : Jvm.MethodName)) ∈ lw_all := lw_g (lw_at lw_m2 107 rfl) rfl
theorem q960 : (Jvm.Cond.fieldLinkNest "LakeLevels$Parser" (22 : Nat) "LakeLevels" "text" "[B" "LakeLevels") ∈ lw_tbl := lw_at lw_m4 139 rfl
theorem q962 : (Jvm.Cond.fieldLinkNest "LakeLevels$Parser" (19 : Nat) "LakeLevels" "textLength" "I" "LakeLevels") ∈ lw_tbl := lw_at lw_m4 141 rfl
theorem q1400 : (Jvm.Cond.instantiable "LakeLevels$Parser" (2 : Nat)) ∈ lw_all := lw_g (lw_at lw_m6 99 rfl) rfl
theorem q1402 : (Jvm.Cond.instanceMethod ({ cls := "LakeLevels$Parser", name := "<init>", desc := "(LLakeLevels;)V" } : Jvm.MethodName)) ∈ lw_all := lw_g (lw_at lw_m6 101 rfl) rfl
theorem q1403 : (Jvm.Cond.code ({ cls := "LakeLevels$Parser", name := "<init>", desc := "(LLakeLevels;)V" } : Jvm.MethodName) prog_9_method_1_code (2 : Nat) (Option.none : Option Jvm.ClassFile.FieldType)) ∈ lw_all := lw_g (lw_at lw_m6 102 rfl) rfl
theorem q1404 : (Jvm.Cond.methodLink "LakeLevels$Parser" (9 : Nat) ({ cls := "java/lang/Object", name := "<init>", desc := "()V" } : Jvm.MethodName)) ∈ lw_all := lw_g (lw_at lw_m6 103 rfl) rfl
theorem q1405 : (Jvm.Cond.fieldLink "LakeLevels$Parser" (15 : Nat) "LakeLevels$Parser" "at" "I") ∈ lw_all := lw_g (lw_at lw_m6 104 rfl) rfl
theorem q1406 : (Jvm.Cond.fieldLink "LakeLevels$Parser" (3 : Nat) "LakeLevels$Parser" "this$0" "LLakeLevels;") ∈ lw_all := lw_g (lw_at lw_m6 105 rfl) rfl
theorem q1407 : (Jvm.Cond.lays "LakeLevels$Parser" "LakeLevels$Parser" "at" "I") ∈ lw_all := lw_g (lw_at lw_m6 106 rfl) rfl
theorem q1408 : (Jvm.Cond.soleField "LakeLevels$Parser" "at") ∈ lw_all := lw_g (lw_at lw_m6 107 rfl) rfl
theorem q1409 : (Jvm.Cond.laysFinal "LakeLevels$Parser" "LakeLevels$Parser" "this$0" "LLakeLevels;") ∈ lw_all := lw_g (lw_at lw_m6 108 rfl) rfl
theorem q1410 : (Jvm.Cond.soleField "LakeLevels$Parser" "this$0") ∈ lw_all := lw_g (lw_at lw_m6 109 rfl) rfl
theorem q1411 : (Jvm.Cond.superclass "LakeLevels$Parser" "java/lang/Object") ∈ lw_all := lw_g (lw_at lw_m6 110 rfl) rfl
theorem q1413 : (Jvm.Cond.instanceMethod ({ cls := "LakeLevels$Parser", name := "parse", desc := "()LLakeLevels$Land;" } : Jvm.MethodName)) ∈ lw_all := lw_g (lw_at lw_m6 112 rfl) rfl
theorem q1414 : (Jvm.Cond.selects "LakeLevels$Parser" ({ cls := "LakeLevels$Parser", name := "parse", desc := "()LLakeLevels$Land;" } : Jvm.MethodName) ({ cls := "LakeLevels$Parser", name := "parse", desc := "()LLakeLevels$Land;" } : Jvm.MethodName)) ∈ lw_all := lw_g (lw_at lw_m6 113 rfl) rfl
theorem q1415 : (Jvm.Cond.code ({ cls := "LakeLevels$Parser", name := "parse", desc := "()LLakeLevels$Land;" } : Jvm.MethodName) prog_9_method_9_code (4 : Nat) (Option.some (Jvm.ClassFile.FieldType.object "LakeLevels$Land"))) ∈ lw_all := lw_g (lw_at lw_m6 114 rfl) rfl
theorem q1416 : (Jvm.Cond.methodLink "LakeLevels$Parser" (69 : Nat) ({ cls := "LakeLevels$Parser", name := "side", desc := "()I" } : Jvm.MethodName)) ∈ lw_all := lw_g (lw_at lw_m6 115 rfl) rfl
theorem q1417 : (Jvm.Cond.privateMethod ({ cls := "LakeLevels$Parser", name := "side", desc := "()I" } : Jvm.MethodName)) ∈ lw_tbl := lw_at lw_m6 116 rfl
theorem q1418 : (Jvm.Cond.instanceMethod ({ cls := "LakeLevels$Parser", name := "side", desc := "()I" } : Jvm.MethodName)) ∈ lw_all := lw_g (lw_at lw_m6 117 rfl) rfl
theorem q1419 : (Jvm.Cond.code ({ cls := "LakeLevels$Parser", name := "side", desc := "()I" } : Jvm.MethodName) prog_9_method_5_code (1 : Nat) (Option.some Jvm.ClassFile.FieldType.int)) ∈ lw_all := lw_g (lw_at lw_m6 118 rfl) rfl
theorem q1420 : (Jvm.Cond.methodLink "LakeLevels$Parser" (31 : Nat) ({ cls := "LakeLevels$Parser", name := "isAt", desc := "(CC)Z" } : Jvm.MethodName)) ∈ lw_all := lw_g (lw_at lw_m6 119 rfl) rfl
theorem q1421 : (Jvm.Cond.privateMethod ({ cls := "LakeLevels$Parser", name := "isAt", desc := "(CC)Z" } : Jvm.MethodName)) ∈ lw_tbl := lw_at lw_m6 120 rfl
theorem q1422 : (Jvm.Cond.instanceMethod ({ cls := "LakeLevels$Parser", name := "isAt", desc := "(CC)Z" } : Jvm.MethodName)) ∈ lw_all := lw_g (lw_at lw_m6 121 rfl) rfl
theorem q1423 : (Jvm.Cond.code ({ cls := "LakeLevels$Parser", name := "isAt", desc := "(CC)Z" } : Jvm.MethodName) prog_9_method_2_code (3 : Nat) (Option.some Jvm.ClassFile.FieldType.boolean)) ∈ lw_all := lw_g (lw_at lw_m6 122 rfl) rfl
theorem q1424 : (Jvm.Cond.methodLink "LakeLevels$Parser" (35 : Nat) ({ cls := "LakeLevels$Parser", name := "check", desc := "(ZI)V" } : Jvm.MethodName)) ∈ lw_all := lw_g (lw_at lw_m6 123 rfl) rfl
theorem q1425 : (Jvm.Cond.privateMethod ({ cls := "LakeLevels$Parser", name := "check", desc := "(ZI)V" } : Jvm.MethodName)) ∈ lw_tbl := lw_at lw_m6 124 rfl
theorem q1426 : (Jvm.Cond.instanceMethod ({ cls := "LakeLevels$Parser", name := "check", desc := "(ZI)V" } : Jvm.MethodName)) ∈ lw_all := lw_g (lw_at lw_m6 125 rfl) rfl
theorem q1427 : (Jvm.Cond.code ({ cls := "LakeLevels$Parser", name := "check", desc := "(ZI)V" } : Jvm.MethodName) prog_9_method_3_code (3 : Nat) (Option.none : Option Jvm.ClassFile.FieldType)) ∈ lw_all := lw_g (lw_at lw_m6 126 rfl) rfl
theorem q1428 : (Jvm.Cond.classLink "LakeLevels$Parser" (26 : Nat) "LakeLevels$SyntaxError") ∈ lw_all := lw_g (lw_at lw_m6 127 rfl) rfl
theorem q1437 : (Jvm.Cond.methodLink "LakeLevels$Parser" (28 : Nat) ({ cls := "LakeLevels$SyntaxError", name := "<init>", desc := "(I)V" } : Jvm.MethodName)) ∈ lw_all := lw_g (lw_at lw_m6 136 rfl) rfl
theorem q1452 : (Jvm.Cond.classLink "LakeLevels$Parser" (40 : Nat) "LakeLevels$Land") ∈ lw_all := lw_g (lw_at lw_m6 151 rfl) rfl
theorem q1453 : (Jvm.Cond.methodLink "LakeLevels$Parser" (72 : Nat) ({ cls := "LakeLevels$Land", name := "<init>", desc := "(II)V" } : Jvm.MethodName)) ∈ lw_all := lw_g (lw_at lw_m6 152 rfl) rfl
theorem q1454 : (Jvm.Cond.methodLink "LakeLevels$Parser" (39 : Nat) ({ cls := "LakeLevels$Land", name := "size", desc := "()I" } : Jvm.MethodName)) ∈ lw_all := lw_g (lw_at lw_m6 153 rfl) rfl
theorem q1455 : (Jvm.Cond.methodLink "LakeLevels$Parser" (49 : Nat) ({ cls := "LakeLevels$Parser", name := "pass", desc := "(C)V" } : Jvm.MethodName)) ∈ lw_all := lw_g (lw_at lw_m6 154 rfl) rfl
theorem q1456 : (Jvm.Cond.privateMethod ({ cls := "LakeLevels$Parser", name := "pass", desc := "(C)V" } : Jvm.MethodName)) ∈ lw_tbl := lw_at lw_m6 155 rfl
theorem q1457 : (Jvm.Cond.instanceMethod ({ cls := "LakeLevels$Parser", name := "pass", desc := "(C)V" } : Jvm.MethodName)) ∈ lw_all := lw_g (lw_at lw_m6 156 rfl) rfl
theorem q1458 : (Jvm.Cond.code ({ cls := "LakeLevels$Parser", name := "pass", desc := "(C)V" } : Jvm.MethodName) prog_9_method_4_code (2 : Nat) (Option.none : Option Jvm.ClassFile.FieldType)) ∈ lw_all := lw_g (lw_at lw_m6 157 rfl) rfl
theorem q1459 : (Jvm.Cond.methodLink "LakeLevels$Parser" (45 : Nat) ({ cls := "LakeLevels$Parser", name := "number", desc := "(I)I" } : Jvm.MethodName)) ∈ lw_all := lw_g (lw_at lw_m6 158 rfl) rfl
theorem q1460 : (Jvm.Cond.privateMethod ({ cls := "LakeLevels$Parser", name := "number", desc := "(I)I" } : Jvm.MethodName)) ∈ lw_tbl := lw_at lw_m6 159 rfl
theorem q1461 : (Jvm.Cond.instanceMethod ({ cls := "LakeLevels$Parser", name := "number", desc := "(I)I" } : Jvm.MethodName)) ∈ lw_all := lw_g (lw_at lw_m6 160 rfl) rfl
theorem q1462 : (Jvm.Cond.code ({ cls := "LakeLevels$Parser", name := "number", desc := "(I)I" } : Jvm.MethodName) prog_9_method_6_code (4 : Nat) (Option.some Jvm.ClassFile.FieldType.int)) ∈ lw_all := lw_g (lw_at lw_m6 161 rfl) rfl
theorem q1463 : (Jvm.Cond.methodLink "LakeLevels$Parser" (79 : Nat) ({ cls := "LakeLevels$Parser", name := "item", desc := "(LLakeLevels$Land;)V" } : Jvm.MethodName)) ∈ lw_all := lw_g (lw_at lw_m6 162 rfl) rfl
theorem q1464 : (Jvm.Cond.privateMethod ({ cls := "LakeLevels$Parser", name := "item", desc := "(LLakeLevels$Land;)V" } : Jvm.MethodName)) ∈ lw_tbl := lw_at lw_m6 163 rfl
theorem q1465 : (Jvm.Cond.instanceMethod ({ cls := "LakeLevels$Parser", name := "item", desc := "(LLakeLevels$Land;)V" } : Jvm.MethodName)) ∈ lw_all := lw_g (lw_at lw_m6 164 rfl) rfl
theorem q1466 : (Jvm.Cond.code ({ cls := "LakeLevels$Parser", name := "item", desc := "(LLakeLevels$Land;)V" } : Jvm.MethodName) prog_9_method_8_code (3 : Nat) (Option.none : Option Jvm.ClassFile.FieldType)) ∈ lw_all := lw_g (lw_at lw_m6 165 rfl) rfl
theorem q1467 : (Jvm.Cond.methodLink "LakeLevels$Parser" (61 : Nat) ({ cls := "LakeLevels$Parser", name := "gate", desc := "(LLakeLevels$Land;)V" } : Jvm.MethodName)) ∈ lw_all := lw_g (lw_at lw_m6 166 rfl) rfl
theorem q1468 : (Jvm.Cond.privateMethod ({ cls := "LakeLevels$Parser", name := "gate", desc := "(LLakeLevels$Land;)V" } : Jvm.MethodName)) ∈ lw_tbl := lw_at lw_m6 167 rfl
theorem q1469 : (Jvm.Cond.instanceMethod ({ cls := "LakeLevels$Parser", name := "gate", desc := "(LLakeLevels$Land;)V" } : Jvm.MethodName)) ∈ lw_all := lw_g (lw_at lw_m6 168 rfl) rfl
theorem q1470 : (Jvm.Cond.code ({ cls := "LakeLevels$Parser", name := "gate", desc := "(LLakeLevels$Land;)V" } : Jvm.MethodName) prog_9_method_7_code (5 : Nat) (Option.none : Option Jvm.ClassFile.FieldType)) ∈ lw_all := lw_g (lw_at lw_m6 169 rfl) rfl
theorem q1471 : (Jvm.Cond.methodLink "LakeLevels$Parser" (53 : Nat) ({ cls := "LakeLevels$Land", name := "areNeighbors", desc := "(II)Z" } : Jvm.MethodName)) ∈ lw_all := lw_g (lw_at lw_m6 170 rfl) rfl
theorem q1472 : (Jvm.Cond.methodLink "LakeLevels$Parser" (57 : Nat) ({ cls := "LakeLevels$Land", name := "setGate", desc := "(III)V" } : Jvm.MethodName)) ∈ lw_all := lw_g (lw_at lw_m6 171 rfl) rfl
theorem q1538 : (Jvm.Cond.selects "LakeLevels$Parser" ({ cls := "java/lang/Object", name := "equals", desc := "(Ljava/lang/Object;)Z" } : Jvm.MethodName) ({ cls := "java/lang/Object", name := "equals", desc := "(Ljava/lang/Object;)Z" } : Jvm.MethodName)) ∈ lw_all := lw_g (lw_at lw_m6 237 rfl) rfl
theorem q2549 : (Jvm.Cond.castable "LakeLevels$Parser" "java/lang/Object") ∈ lw_tbl := lw_at lw_m11 48 rfl
theorem in_X10 : ∀ w ∈ wsX100, w ∈ lw_all := lw_in wsX100 [1407, 1409] (by decide +kernel) (by decide +kernel)

/-! LakeLevels$SyntaxError -/
set_option maxRecDepth 100000
def RX11 : String := "LakeLevels$SyntaxError"
def TX11 : u_T := fun k => match k with
  | 0 => ("java/lang/Throwable", "cause", "Ljava/lang/Throwable;", false)
  | 1 => ("java/lang/Throwable", "stackTrace", "[Ljava/lang/StackTraceElement;", false)
  | 2 => ("java/lang/Throwable", "suppressedExceptions", "Ljava/util/List;", false)
  | 3 => ("java/lang/Throwable", "detailMessage", "Ljava/lang/String;", false)
  | 4 => ("java/lang/Throwable", "backtrace", "Ljava/lang/Object;", false)
  | 5 => ("java/lang/Throwable", "depth", "I", false)
  | _ => ("LakeLevels$SyntaxError", "position", "I", true)
def tyX11 : Nat → FieldType := fun k => match k with
  | 0 => .object "java/lang/Throwable"
  | 1 => .array (.object "java/lang/StackTraceElement")
  | 2 => .object "java/util/List"
  | 3 => .object "java/lang/String"
  | 4 => .object "java/lang/Object"
  | 5 => .int
  | _ => .int
abbrev wsX110 : List Cond := u_ws RX11 TX11 7
theorem nmX11 : ∀ a, a < 7 → ∀ b, b < 7 → a ≠ b → (TX11 a).2.1 ≠ (TX11 b).2.1 := by decide +kernel
theorem tyX11_ok : ∀ k, k < 7 → parseFieldDescriptor (TX11 k).2.2.1 = some (tyX11 k) := by decide +kernel
abbrev cX11_init : ByteArray := prog_11_method_1_code
def yX11_init : MethodName := ⟨RX11, "<init>", "(I)V"⟩
def dkwX11_init_0 : List UInt8 := [42, 1, 1, 3, 3, 183, 0, 1, 42, 27, 181, 0, 7, 177]
abbrev dktX11_init_0 : List UInt8 := dkwX11_init_0 ++ []
theorem dksX11_init_0 : cX11_init.data.toList.drop 0 = dktX11_init_0 := by decide +kernel
theorem dX11_init_0 : decode cX11_init 0 = .ok (.aload_n 0, 1) := dk_42 (dk_at dksX11_init_0 0 rfl rfl)
theorem dX11_init_1 : decode cX11_init 1 = .ok (.aconst_null, 1) := dk_1 (dk_at dksX11_init_0 1 rfl rfl)
theorem dX11_init_2 : decode cX11_init 2 = .ok (.aconst_null, 1) := dk_1 (dk_at dksX11_init_0 2 rfl rfl)
theorem dX11_init_3 : decode cX11_init 3 = .ok (.iconst 0, 1) := dk_3 (dk_at dksX11_init_0 3 rfl rfl)
theorem dX11_init_4 : decode cX11_init 4 = .ok (.iconst 0, 1) := dk_3 (dk_at dksX11_init_0 4 rfl rfl)
theorem dX11_init_5 : decode cX11_init 5 = .ok (.invokespecial 1, 3) := dk_183 0 1 (dk_at dksX11_init_0 5 rfl rfl)
theorem dX11_init_8 : decode cX11_init 8 = .ok (.aload_n 0, 1) := dk_42 (dk_at dksX11_init_0 8 rfl rfl)
theorem dX11_init_9 : decode cX11_init 9 = .ok (.iload_n 1, 1) := dk_27 (dk_at dksX11_init_0 9 rfl rfl)
theorem dX11_init_10 : decode cX11_init 10 = .ok (.putfield 7, 3) := dk_181 0 7 (dk_at dksX11_init_0 10 rfl rfl)
theorem dX11_init_13 : decode cX11_init 13 = .ok (.return_, 1) := dk_177 (dk_at dksX11_init_0 13 rfl rfl)
theorem q148 : (Jvm.Cond.initialized "LakeLevels$SyntaxError") ∈ lw_all := lw_g (lw_at lw_m1 47 rfl) rfl
theorem q395 : (Jvm.Cond.selects "LakeLevels$SyntaxError" ({ cls := "java/lang/Throwable", name := "fillInStackTrace", desc := "()Ljava/lang/Throwable;" } : Jvm.MethodName) ({ cls := "java/lang/Throwable", name := "fillInStackTrace", desc := "()Ljava/lang/Throwable;" } : Jvm.MethodName)) ∈ lw_all := lw_g (lw_at lw_m2 54 rfl) rfl
theorem q450 : (Jvm.Cond.selects "LakeLevels$SyntaxError" ({ cls := "java/lang/Object", name := "getClass", desc := "()Ljava/lang/Class;" } : Jvm.MethodName) ({ cls := "java/lang/Object", name := "getClass", desc := "()Ljava/lang/Class;" } : Jvm.MethodName)) ∈ lw_all := lw_g (lw_at lw_m2 109 rfl) rfl
theorem q1254 : (Jvm.Cond.selects "LakeLevels$SyntaxError" ({ cls := "java/lang/Throwable", name := "toString", desc := "()Ljava/lang/String;" } : Jvm.MethodName) ({ cls := "java/lang/Throwable", name := "toString", desc := "()Ljava/lang/String;" } : Jvm.MethodName)) ∈ lw_all := lw_g (lw_at lw_m5 193 rfl) rfl
theorem q1266 : (Jvm.Cond.selects "LakeLevels$SyntaxError" ({ cls := "java/lang/Throwable", name := "getLocalizedMessage", desc := "()Ljava/lang/String;" } : Jvm.MethodName) ({ cls := "java/lang/Throwable", name := "getLocalizedMessage", desc := "()Ljava/lang/String;" } : Jvm.MethodName)) ∈ lw_all := lw_g (lw_at lw_m5 205 rfl) rfl
theorem q1277 : (Jvm.Cond.selects "LakeLevels$SyntaxError" ({ cls := "java/lang/Throwable", name := "getMessage", desc := "()Ljava/lang/String;" } : Jvm.MethodName) ({ cls := "java/lang/Throwable", name := "getMessage", desc := "()Ljava/lang/String;" } : Jvm.MethodName)) ∈ lw_all := lw_g (lw_at lw_m5 216 rfl) rfl
theorem q1429 : (Jvm.Cond.instantiable "LakeLevels$SyntaxError" (7 : Nat)) ∈ lw_all := lw_g (lw_at lw_m6 128 rfl) rfl
theorem q1430 : (Jvm.Cond.castable "LakeLevels$SyntaxError" "LakeLevels$SyntaxError") ∈ lw_tbl := lw_at lw_m6 129 rfl
theorem q1431 : (Jvm.Cond.selects "LakeLevels$SyntaxError" ({ cls := "java/lang/Throwable", name := "fillInStackTrace", desc := "(I)Ljava/lang/Throwable;" } : Jvm.MethodName) ({ cls := "java/lang/Throwable", name := "fillInStackTrace", desc := "(I)Ljava/lang/Throwable;" } : Jvm.MethodName)) ∈ lw_all := lw_g (lw_at lw_m6 130 rfl) rfl
theorem q1432 : (Jvm.Cond.lays "LakeLevels$SyntaxError" "java/lang/Throwable" "cause" "Ljava/lang/Throwable;") ∈ lw_all := lw_g (lw_at lw_m6 131 rfl) rfl
theorem q1433 : (Jvm.Cond.lays "LakeLevels$SyntaxError" "java/lang/Throwable" "stackTrace" "[Ljava/lang/StackTraceElement;") ∈ lw_all := lw_g (lw_at lw_m6 132 rfl) rfl
theorem q1434 : (Jvm.Cond.lays "LakeLevels$SyntaxError" "java/lang/Throwable" "suppressedExceptions" "Ljava/util/List;") ∈ lw_all := lw_g (lw_at lw_m6 133 rfl) rfl
theorem q1435 : (Jvm.Cond.lays "LakeLevels$SyntaxError" "java/lang/Throwable" "detailMessage" "Ljava/lang/String;") ∈ lw_all := lw_g (lw_at lw_m6 134 rfl) rfl
theorem q1436 : (Jvm.Cond.lays "LakeLevels$SyntaxError" "java/lang/Throwable" "backtrace" "Ljava/lang/Object;") ∈ lw_all := lw_g (lw_at lw_m6 135 rfl) rfl
theorem q1438 : (Jvm.Cond.instanceMethod ({ cls := "LakeLevels$SyntaxError", name := "<init>", desc := "(I)V" } : Jvm.MethodName)) ∈ lw_all := lw_g (lw_at lw_m6 137 rfl) rfl
theorem q1439 : (Jvm.Cond.code ({ cls := "LakeLevels$SyntaxError", name := "<init>", desc := "(I)V" } : Jvm.MethodName) prog_11_method_1_code (2 : Nat) (Option.none : Option Jvm.ClassFile.FieldType)) ∈ lw_all := lw_g (lw_at lw_m6 138 rfl) rfl
theorem q1440 : (Jvm.Cond.methodLink "LakeLevels$SyntaxError" (1 : Nat) ({ cls := "java/lang/Exception", name := "<init>", desc := "(Ljava/lang/String;Ljava/lang/Throwable;ZZ)V" } : Jvm.MethodName)) ∈ lw_all := lw_g (lw_at lw_m6 139 rfl) rfl
theorem q1446 : (Jvm.Cond.fieldLink "LakeLevels$SyntaxError" (7 : Nat) "LakeLevels$SyntaxError" "position" "I") ∈ lw_all := lw_g (lw_at lw_m6 145 rfl) rfl
theorem q1448 : (Jvm.Cond.laysFinal "LakeLevels$SyntaxError" "LakeLevels$SyntaxError" "position" "I") ∈ lw_all := lw_g (lw_at lw_m6 147 rfl) rfl
theorem q1449 : (Jvm.Cond.soleField "LakeLevels$SyntaxError" "position") ∈ lw_all := lw_g (lw_at lw_m6 148 rfl) rfl
theorem q1450 : (Jvm.Cond.lays "LakeLevels$SyntaxError" "java/lang/Throwable" "depth" "I") ∈ lw_all := lw_g (lw_at lw_m6 149 rfl) rfl
theorem q1451 : (Jvm.Cond.superclass "LakeLevels$SyntaxError" "java/lang/Exception") ∈ lw_all := lw_g (lw_at lw_m6 150 rfl) rfl
theorem q1540 : (Jvm.Cond.selects "LakeLevels$SyntaxError" ({ cls := "java/lang/Object", name := "equals", desc := "(Ljava/lang/Object;)Z" } : Jvm.MethodName) ({ cls := "java/lang/Object", name := "equals", desc := "(Ljava/lang/Object;)Z" } : Jvm.MethodName)) ∈ lw_all := lw_g (lw_at lw_m6 239 rfl) rfl
theorem q2550 : (Jvm.Cond.castable "LakeLevels$SyntaxError" "java/lang/Object") ∈ lw_tbl := lw_at lw_m11 49 rfl
theorem in_X11 : ∀ w ∈ wsX110, w ∈ lw_all := lw_in wsX110 [1432, 1433, 1434, 1435, 1436, 1450, 1448] (by decide +kernel) (by decide +kernel)
