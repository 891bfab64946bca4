/-! LakeLevels$State -/
set_option maxRecDepth 100000
def RX3 : String := "LakeLevels$State"
def TX3 : u_T := fun k => match k with
  | 0 => ("LakeLevels$State", "land", "LLakeLevels$Land;", true)
  | 1 => ("LakeLevels$State", "lakes", "Ljava/util/LinkedList;", true)
  | 2 => ("LakeLevels$State", "byCell", "[LLakeLevels$Lake;", true)
  | 3 => ("LakeLevels$State", "poured", "J", false)
  | 4 => ("LakeLevels$State", "lost", "J", false)
  | _ => ("LakeLevels$State", "evaporated", "J", false)
def tyX3 : Nat → FieldType := fun k => match k with
  | 0 => .object "LakeLevels$Land"
  | 1 => .object "java/util/LinkedList"
  | 2 => .array (.object "LakeLevels$Lake")
  | 3 => .long
  | 4 => .long
  | _ => .long
abbrev wsX30 : List Cond := u_ws RX3 TX3 6
theorem nmX3 : ∀ a, a < 6 → ∀ b, b < 6 → a ≠ b → (TX3 a).2.1 ≠ (TX3 b).2.1 := by decide +kernel
theorem tyX3_ok : ∀ k, k < 6 → parseFieldDescriptor (TX3 k).2.2.1 = some (tyX3 k) := by decide +kernel
abbrev cX3_init : ByteArray := prog_10_method_1_code
def yX3_init : MethodName := ⟨RX3, "<init>", "(LLakeLevels$Land;)V"⟩
def dkwX3_init_1 : List UInt8 := [42, 43, 181, 0, 24, 177]
abbrev dktX3_init_1 : List UInt8 := dkwX3_init_1 ++ []
def dkwX3_init_0 : List UInt8 := [42, 183, 0, 3, 42, 187, 0, 9, 89, 183, 0, 11, 181, 0, 12, 42, 16, 36, 189, 0, 18, 181, 0, 20]
abbrev dktX3_init_0 : List UInt8 := dkwX3_init_0 ++ dktX3_init_1
theorem dksX3_init_0 : cX3_init.data.toList.drop 0 = dktX3_init_0 := by decide +kernel
theorem dksX3_init_1 : cX3_init.data.toList.drop 24 = dktX3_init_1 := dk_seg dksX3_init_0 24 rfl rfl
theorem dX3_init_0 : decode cX3_init 0 = .ok (.aload_n 0, 1) := dk_42 (dk_at dksX3_init_0 0 rfl rfl)
theorem dX3_init_1 : decode cX3_init 1 = .ok (.invokespecial 3, 3) := dk_183 0 3 (dk_at dksX3_init_0 1 rfl rfl)
theorem dX3_init_4 : decode cX3_init 4 = .ok (.aload_n 0, 1) := dk_42 (dk_at dksX3_init_0 4 rfl rfl)
theorem dX3_init_5 : decode cX3_init 5 = .ok (.new 9, 3) := dk_187 0 9 (dk_at dksX3_init_0 5 rfl rfl)
theorem dX3_init_8 : decode cX3_init 8 = .ok (.dup, 1) := dk_89 (dk_at dksX3_init_0 8 rfl rfl)
theorem dX3_init_9 : decode cX3_init 9 = .ok (.invokespecial 11, 3) := dk_183 0 11 (dk_at dksX3_init_0 9 rfl rfl)
theorem dX3_init_12 : decode cX3_init 12 = .ok (.putfield 12, 3) := dk_181 0 12 (dk_at dksX3_init_0 12 rfl rfl)
theorem dX3_init_15 : decode cX3_init 15 = .ok (.aload_n 0, 1) := dk_42 (dk_at dksX3_init_0 15 rfl rfl)
theorem dX3_init_16 : decode cX3_init 16 = .ok (.bipush 36, 2) := dk_16 36 (dk_at dksX3_init_0 16 rfl rfl)
theorem dX3_init_18 : decode cX3_init 18 = .ok (.anewarray 18, 3) := dk_189 0 18 (dk_at dksX3_init_0 18 rfl rfl)
theorem dX3_init_21 : decode cX3_init 21 = .ok (.putfield 20, 3) := dk_181 0 20 (dk_at dksX3_init_0 21 rfl rfl)
theorem dX3_init_24 : decode cX3_init 24 = .ok (.aload_n 0, 1) := dk_42 (dk_at dksX3_init_1 0 rfl rfl)
theorem dX3_init_25 : decode cX3_init 25 = .ok (.aload_n 1, 1) := dk_43 (dk_at dksX3_init_1 1 rfl rfl)
theorem dX3_init_26 : decode cX3_init 26 = .ok (.putfield 24, 3) := dk_181 0 24 (dk_at dksX3_init_1 2 rfl rfl)
theorem dX3_init_29 : decode cX3_init 29 = .ok (.return_, 1) := dk_177 (dk_at dksX3_init_1 5 rfl rfl)
abbrev cX3_find : ByteArray := prog_10_method_3_code
def yX3_find : MethodName := ⟨RX3, "find", "()V"⟩
def dkwX3_find_2 : List UInt8 := [27, 182, 0, 78, 183, 0, 82, 182, 0, 48, 132, 1, 1, 167, 255, 219, 177]
abbrev dktX3_find_2 : List UInt8 := dkwX3_find_2 ++ []
def dkwX3_find_1 : List UInt8 := [27, 42, 180, 0, 24, 180, 0, 74, 162, 0, 32, 42, 187, 0, 18, 89, 42, 180, 0, 24, 42, 180, 0, 24]
abbrev dktX3_find_1 : List UInt8 := dkwX3_find_1 ++ dktX3_find_2
def dkwX3_find_0 : List UInt8 := [42, 180, 0, 24, 182, 0, 62, 42, 180, 0, 12, 182, 0, 65, 42, 180, 0, 20, 1, 184, 0, 68, 3, 60]
abbrev dktX3_find_0 : List UInt8 := dkwX3_find_0 ++ dktX3_find_1
theorem dksX3_find_0 : cX3_find.data.toList.drop 0 = dktX3_find_0 := by decide +kernel
theorem dksX3_find_1 : cX3_find.data.toList.drop 24 = dktX3_find_1 := dk_seg dksX3_find_0 24 rfl rfl
theorem dksX3_find_2 : cX3_find.data.toList.drop 48 = dktX3_find_2 := dk_seg dksX3_find_1 24 rfl rfl
theorem dX3_find_0 : decode cX3_find 0 = .ok (.aload_n 0, 1) := dk_42 (dk_at dksX3_find_0 0 rfl rfl)
theorem dX3_find_1 : decode cX3_find 1 = .ok (.getfield 24, 3) := dk_180 0 24 (dk_at dksX3_find_0 1 rfl rfl)
theorem dX3_find_4 : decode cX3_find 4 = .ok (.invokevirtual 62, 3) := dk_182 0 62 (dk_at dksX3_find_0 4 rfl rfl)
theorem dX3_find_7 : decode cX3_find 7 = .ok (.aload_n 0, 1) := dk_42 (dk_at dksX3_find_0 7 rfl rfl)
theorem dX3_find_8 : decode cX3_find 8 = .ok (.getfield 12, 3) := dk_180 0 12 (dk_at dksX3_find_0 8 rfl rfl)
theorem dX3_find_11 : decode cX3_find 11 = .ok (.invokevirtual 65, 3) := dk_182 0 65 (dk_at dksX3_find_0 11 rfl rfl)
theorem dX3_find_14 : decode cX3_find 14 = .ok (.aload_n 0, 1) := dk_42 (dk_at dksX3_find_0 14 rfl rfl)
theorem dX3_find_15 : decode cX3_find 15 = .ok (.getfield 20, 3) := dk_180 0 20 (dk_at dksX3_find_0 15 rfl rfl)
theorem dX3_find_18 : decode cX3_find 18 = .ok (.aconst_null, 1) := dk_1 (dk_at dksX3_find_0 18 rfl rfl)
theorem dX3_find_19 : decode cX3_find 19 = .ok (.invokestatic 68, 3) := dk_184 0 68 (dk_at dksX3_find_0 19 rfl rfl)
theorem dX3_find_22 : decode cX3_find 22 = .ok (.iconst 0, 1) := dk_3 (dk_at dksX3_find_0 22 rfl rfl)
theorem dX3_find_23 : decode cX3_find 23 = .ok (.istore_n 1, 1) := dk_60 (dk_at dksX3_find_0 23 rfl rfl)
theorem dX3_find_24 : decode cX3_find 24 = .ok (.iload_n 1, 1) := dk_27 (dk_at dksX3_find_1 0 rfl rfl)
theorem dX3_find_25 : decode cX3_find 25 = .ok (.aload_n 0, 1) := dk_42 (dk_at dksX3_find_1 1 rfl rfl)
theorem dX3_find_26 : decode cX3_find 26 = .ok (.getfield 24, 3) := dk_180 0 24 (dk_at dksX3_find_1 2 rfl rfl)
theorem dX3_find_29 : decode cX3_find 29 = .ok (.getfield 74, 3) := dk_180 0 74 (dk_at dksX3_find_1 5 rfl rfl)
theorem dX3_find_32 : decode cX3_find 32 = .ok (.if_icmp .ge 32, 3) := dk_162 0 32 (dk_at dksX3_find_1 8 rfl rfl)
theorem dX3_find_35 : decode cX3_find 35 = .ok (.aload_n 0, 1) := dk_42 (dk_at dksX3_find_1 11 rfl rfl)
theorem dX3_find_36 : decode cX3_find 36 = .ok (.new 18, 3) := dk_187 0 18 (dk_at dksX3_find_1 12 rfl rfl)
theorem dX3_find_39 : decode cX3_find 39 = .ok (.dup, 1) := dk_89 (dk_at dksX3_find_1 15 rfl rfl)
theorem dX3_find_40 : decode cX3_find 40 = .ok (.aload_n 0, 1) := dk_42 (dk_at dksX3_find_1 16 rfl rfl)
theorem dX3_find_41 : decode cX3_find 41 = .ok (.getfield 24, 3) := dk_180 0 24 (dk_at dksX3_find_1 17 rfl rfl)
theorem dX3_find_44 : decode cX3_find 44 = .ok (.aload_n 0, 1) := dk_42 (dk_at dksX3_find_1 20 rfl rfl)
theorem dX3_find_45 : decode cX3_find 45 = .ok (.getfield 24, 3) := dk_180 0 24 (dk_at dksX3_find_1 21 rfl rfl)
theorem dX3_find_48 : decode cX3_find 48 = .ok (.iload_n 1, 1) := dk_27 (dk_at dksX3_find_2 0 rfl rfl)
theorem dX3_find_49 : decode cX3_find 49 = .ok (.invokevirtual 78, 3) := dk_182 0 78 (dk_at dksX3_find_2 1 rfl rfl)
theorem dX3_find_52 : decode cX3_find 52 = .ok (.invokespecial 82, 3) := dk_183 0 82 (dk_at dksX3_find_2 4 rfl rfl)
theorem dX3_find_55 : decode cX3_find 55 = .ok (.invokevirtual 48, 3) := dk_182 0 48 (dk_at dksX3_find_2 7 rfl rfl)
theorem dX3_find_58 : decode cX3_find 58 = .ok (.iinc 1 1, 3) := dk_132 1 1 (dk_at dksX3_find_2 10 rfl rfl)
theorem dX3_find_61 : decode cX3_find 61 = .ok (.goto (-37), 3) := dk_167 255 219 (dk_at dksX3_find_2 13 rfl rfl)
theorem dX3_find_64 : decode cX3_find 64 = .ok (.return_, 1) := dk_177 (dk_at dksX3_find_2 16 rfl rfl)
abbrev cX3_add : ByteArray := prog_10_method_4_code
def yX3_add : MethodName := ⟨RX3, "add", "(LLakeLevels$Lake;)V"⟩
def dkwX3_add_4 : List UInt8 := [167, 0, 9, 42, 180, 0, 20, 29, 50, 83, 132, 3, 1, 167, 255, 215, 177]
abbrev dktX3_add_4 : List UInt8 := dkwX3_add_4 ++ []
def dkwX3_add_3 : List UInt8 := [182, 0, 95, 162, 0, 36, 42, 180, 0, 20, 29, 43, 180, 0, 85, 29, 184, 0, 96, 153, 0, 7, 43]
abbrev dktX3_add_3 : List UInt8 := dkwX3_add_3 ++ dktX3_add_4
def dkwX3_add_2 : List UInt8 := [96, 61, 132, 3, 1, 167, 255, 207, 42, 180, 0, 12, 28, 43, 182, 0, 92, 3, 62, 29, 42, 180, 0, 24]
abbrev dktX3_add_2 : List UInt8 := dkwX3_add_2 ++ dktX3_add_3
def dkwX3_add_1 : List UInt8 := [192, 0, 18, 180, 0, 85, 184, 0, 88, 43, 180, 0, 85, 184, 0, 88, 162, 0, 7, 4, 167, 0, 4, 3]
abbrev dktX3_add_1 : List UInt8 := dkwX3_add_1 ++ dktX3_add_2
def dkwX3_add_0 : List UInt8 := [3, 61, 3, 62, 29, 42, 180, 0, 12, 182, 0, 37, 162, 0, 44, 28, 42, 180, 0, 12, 29, 182, 0, 41]
abbrev dktX3_add_0 : List UInt8 := dkwX3_add_0 ++ dktX3_add_1
theorem dksX3_add_0 : cX3_add.data.toList.drop 0 = dktX3_add_0 := by decide +kernel
theorem dksX3_add_1 : cX3_add.data.toList.drop 24 = dktX3_add_1 := dk_seg dksX3_add_0 24 rfl rfl
theorem dksX3_add_2 : cX3_add.data.toList.drop 48 = dktX3_add_2 := dk_seg dksX3_add_1 24 rfl rfl
theorem dksX3_add_3 : cX3_add.data.toList.drop 72 = dktX3_add_3 := dk_seg dksX3_add_2 24 rfl rfl
theorem dksX3_add_4 : cX3_add.data.toList.drop 95 = dktX3_add_4 := dk_seg dksX3_add_3 23 rfl rfl
theorem dX3_add_0 : decode cX3_add 0 = .ok (.iconst 0, 1) := dk_3 (dk_at dksX3_add_0 0 rfl rfl)
theorem dX3_add_1 : decode cX3_add 1 = .ok (.istore_n 2, 1) := dk_61 (dk_at dksX3_add_0 1 rfl rfl)
theorem dX3_add_2 : decode cX3_add 2 = .ok (.iconst 0, 1) := dk_3 (dk_at dksX3_add_0 2 rfl rfl)
theorem dX3_add_3 : decode cX3_add 3 = .ok (.istore_n 3, 1) := dk_62 (dk_at dksX3_add_0 3 rfl rfl)
theorem dX3_add_4 : decode cX3_add 4 = .ok (.iload_n 3, 1) := dk_29 (dk_at dksX3_add_0 4 rfl rfl)
theorem dX3_add_5 : decode cX3_add 5 = .ok (.aload_n 0, 1) := dk_42 (dk_at dksX3_add_0 5 rfl rfl)
theorem dX3_add_6 : decode cX3_add 6 = .ok (.getfield 12, 3) := dk_180 0 12 (dk_at dksX3_add_0 6 rfl rfl)
theorem dX3_add_9 : decode cX3_add 9 = .ok (.invokevirtual 37, 3) := dk_182 0 37 (dk_at dksX3_add_0 9 rfl rfl)
theorem dX3_add_12 : decode cX3_add 12 = .ok (.if_icmp .ge 44, 3) := dk_162 0 44 (dk_at dksX3_add_0 12 rfl rfl)
theorem dX3_add_15 : decode cX3_add 15 = .ok (.iload_n 2, 1) := dk_28 (dk_at dksX3_add_0 15 rfl rfl)
theorem dX3_add_16 : decode cX3_add 16 = .ok (.aload_n 0, 1) := dk_42 (dk_at dksX3_add_0 16 rfl rfl)
theorem dX3_add_17 : decode cX3_add 17 = .ok (.getfield 12, 3) := dk_180 0 12 (dk_at dksX3_add_0 17 rfl rfl)
theorem dX3_add_20 : decode cX3_add 20 = .ok (.iload_n 3, 1) := dk_29 (dk_at dksX3_add_0 20 rfl rfl)
theorem dX3_add_21 : decode cX3_add 21 = .ok (.invokevirtual 41, 3) := dk_182 0 41 (dk_at dksX3_add_0 21 rfl rfl)
theorem dX3_add_24 : decode cX3_add 24 = .ok (.checkcast 18, 3) := dk_192 0 18 (dk_at dksX3_add_1 0 rfl rfl)
theorem dX3_add_27 : decode cX3_add 27 = .ok (.getfield 85, 3) := dk_180 0 85 (dk_at dksX3_add_1 3 rfl rfl)
theorem dX3_add_30 : decode cX3_add 30 = .ok (.invokestatic 88, 3) := dk_184 0 88 (dk_at dksX3_add_1 6 rfl rfl)
theorem dX3_add_33 : decode cX3_add 33 = .ok (.aload_n 1, 1) := dk_43 (dk_at dksX3_add_1 9 rfl rfl)
theorem dX3_add_34 : decode cX3_add 34 = .ok (.getfield 85, 3) := dk_180 0 85 (dk_at dksX3_add_1 10 rfl rfl)
theorem dX3_add_37 : decode cX3_add 37 = .ok (.invokestatic 88, 3) := dk_184 0 88 (dk_at dksX3_add_1 13 rfl rfl)
theorem dX3_add_40 : decode cX3_add 40 = .ok (.if_icmp .ge 7, 3) := dk_162 0 7 (dk_at dksX3_add_1 16 rfl rfl)
theorem dX3_add_43 : decode cX3_add 43 = .ok (.iconst 1, 1) := dk_4 (dk_at dksX3_add_1 19 rfl rfl)
theorem dX3_add_44 : decode cX3_add 44 = .ok (.goto 4, 3) := dk_167 0 4 (dk_at dksX3_add_1 20 rfl rfl)
theorem dX3_add_47 : decode cX3_add 47 = .ok (.iconst 0, 1) := dk_3 (dk_at dksX3_add_1 23 rfl rfl)
theorem dX3_add_48 : decode cX3_add 48 = .ok (.iadd, 1) := dk_96 (dk_at dksX3_add_2 0 rfl rfl)
theorem dX3_add_49 : decode cX3_add 49 = .ok (.istore_n 2, 1) := dk_61 (dk_at dksX3_add_2 1 rfl rfl)
theorem dX3_add_50 : decode cX3_add 50 = .ok (.iinc 3 1, 3) := dk_132 3 1 (dk_at dksX3_add_2 2 rfl rfl)
theorem dX3_add_53 : decode cX3_add 53 = .ok (.goto (-49), 3) := dk_167 255 207 (dk_at dksX3_add_2 5 rfl rfl)
theorem dX3_add_56 : decode cX3_add 56 = .ok (.aload_n 0, 1) := dk_42 (dk_at dksX3_add_2 8 rfl rfl)
theorem dX3_add_57 : decode cX3_add 57 = .ok (.getfield 12, 3) := dk_180 0 12 (dk_at dksX3_add_2 9 rfl rfl)
theorem dX3_add_60 : decode cX3_add 60 = .ok (.iload_n 2, 1) := dk_28 (dk_at dksX3_add_2 12 rfl rfl)
theorem dX3_add_61 : decode cX3_add 61 = .ok (.aload_n 1, 1) := dk_43 (dk_at dksX3_add_2 13 rfl rfl)
theorem dX3_add_62 : decode cX3_add 62 = .ok (.invokevirtual 92, 3) := dk_182 0 92 (dk_at dksX3_add_2 14 rfl rfl)
theorem dX3_add_65 : decode cX3_add 65 = .ok (.iconst 0, 1) := dk_3 (dk_at dksX3_add_2 17 rfl rfl)
theorem dX3_add_66 : decode cX3_add 66 = .ok (.istore_n 3, 1) := dk_62 (dk_at dksX3_add_2 18 rfl rfl)
theorem dX3_add_67 : decode cX3_add 67 = .ok (.iload_n 3, 1) := dk_29 (dk_at dksX3_add_2 19 rfl rfl)
theorem dX3_add_68 : decode cX3_add 68 = .ok (.aload_n 0, 1) := dk_42 (dk_at dksX3_add_2 20 rfl rfl)
theorem dX3_add_69 : decode cX3_add 69 = .ok (.getfield 24, 3) := dk_180 0 24 (dk_at dksX3_add_2 21 rfl rfl)
theorem dX3_add_72 : decode cX3_add 72 = .ok (.invokevirtual 95, 3) := dk_182 0 95 (dk_at dksX3_add_3 0 rfl rfl)
theorem dX3_add_75 : decode cX3_add 75 = .ok (.if_icmp .ge 36, 3) := dk_162 0 36 (dk_at dksX3_add_3 3 rfl rfl)
theorem dX3_add_78 : decode cX3_add 78 = .ok (.aload_n 0, 1) := dk_42 (dk_at dksX3_add_3 6 rfl rfl)
theorem dX3_add_79 : decode cX3_add 79 = .ok (.getfield 20, 3) := dk_180 0 20 (dk_at dksX3_add_3 7 rfl rfl)
theorem dX3_add_82 : decode cX3_add 82 = .ok (.iload_n 3, 1) := dk_29 (dk_at dksX3_add_3 10 rfl rfl)
theorem dX3_add_83 : decode cX3_add 83 = .ok (.aload_n 1, 1) := dk_43 (dk_at dksX3_add_3 11 rfl rfl)
theorem dX3_add_84 : decode cX3_add 84 = .ok (.getfield 85, 3) := dk_180 0 85 (dk_at dksX3_add_3 12 rfl rfl)
theorem dX3_add_87 : decode cX3_add 87 = .ok (.iload_n 3, 1) := dk_29 (dk_at dksX3_add_3 15 rfl rfl)
theorem dX3_add_88 : decode cX3_add 88 = .ok (.invokestatic 96, 3) := dk_184 0 96 (dk_at dksX3_add_3 16 rfl rfl)
theorem dX3_add_91 : decode cX3_add 91 = .ok (.ifCond .eq 7, 3) := dk_153 0 7 (dk_at dksX3_add_3 19 rfl rfl)
theorem dX3_add_94 : decode cX3_add 94 = .ok (.aload_n 1, 1) := dk_43 (dk_at dksX3_add_3 22 rfl rfl)
theorem dX3_add_95 : decode cX3_add 95 = .ok (.goto 9, 3) := dk_167 0 9 (dk_at dksX3_add_4 0 rfl rfl)
theorem dX3_add_98 : decode cX3_add 98 = .ok (.aload_n 0, 1) := dk_42 (dk_at dksX3_add_4 3 rfl rfl)
theorem dX3_add_99 : decode cX3_add 99 = .ok (.getfield 20, 3) := dk_180 0 20 (dk_at dksX3_add_4 4 rfl rfl)
theorem dX3_add_102 : decode cX3_add 102 = .ok (.iload_n 3, 1) := dk_29 (dk_at dksX3_add_4 7 rfl rfl)
theorem dX3_add_103 : decode cX3_add 103 = .ok (.aaload, 1) := dk_50 (dk_at dksX3_add_4 8 rfl rfl)
theorem dX3_add_104 : decode cX3_add 104 = .ok (.aastore, 1) := dk_83 (dk_at dksX3_add_4 9 rfl rfl)
theorem dX3_add_105 : decode cX3_add 105 = .ok (.iinc 3 1, 3) := dk_132 3 1 (dk_at dksX3_add_4 10 rfl rfl)
theorem dX3_add_108 : decode cX3_add 108 = .ok (.goto (-41), 3) := dk_167 255 215 (dk_at dksX3_add_4 13 rfl rfl)
theorem dX3_add_111 : decode cX3_add 111 = .ok (.return_, 1) := dk_177 (dk_at dksX3_add_4 16 rfl rfl)
abbrev cX3_isWet : ByteArray := prog_10_method_17_code
def yX3_isWet : MethodName := ⟨RX3, "isWet", "(I)Z"⟩
def dkwX3_isWet_1 : List UInt8 := [167, 0, 4, 3, 172]
abbrev dktX3_isWet_1 : List UInt8 := dkwX3_isWet_1 ++ []
def dkwX3_isWet_0 : List UInt8 := [42, 27, 182, 0, 135, 77, 44, 198, 0, 19, 44, 42, 180, 0, 24, 27, 182, 0, 194, 153, 0, 7, 4]
abbrev dktX3_isWet_0 : List UInt8 := dkwX3_isWet_0 ++ dktX3_isWet_1
theorem dksX3_isWet_0 : cX3_isWet.data.toList.drop 0 = dktX3_isWet_0 := by decide +kernel
theorem dksX3_isWet_1 : cX3_isWet.data.toList.drop 23 = dktX3_isWet_1 := dk_seg dksX3_isWet_0 23 rfl rfl
theorem dX3_isWet_0 : decode cX3_isWet 0 = .ok (.aload_n 0, 1) := dk_42 (dk_at dksX3_isWet_0 0 rfl rfl)
theorem dX3_isWet_1 : decode cX3_isWet 1 = .ok (.iload_n 1, 1) := dk_27 (dk_at dksX3_isWet_0 1 rfl rfl)
theorem dX3_isWet_2 : decode cX3_isWet 2 = .ok (.invokevirtual 135, 3) := dk_182 0 135 (dk_at dksX3_isWet_0 2 rfl rfl)
theorem dX3_isWet_5 : decode cX3_isWet 5 = .ok (.astore_n 2, 1) := dk_77 (dk_at dksX3_isWet_0 5 rfl rfl)
theorem dX3_isWet_6 : decode cX3_isWet 6 = .ok (.aload_n 2, 1) := dk_44 (dk_at dksX3_isWet_0 6 rfl rfl)
theorem dX3_isWet_7 : decode cX3_isWet 7 = .ok (.ifnull 19, 3) := dk_198 0 19 (dk_at dksX3_isWet_0 7 rfl rfl)
theorem dX3_isWet_10 : decode cX3_isWet 10 = .ok (.aload_n 2, 1) := dk_44 (dk_at dksX3_isWet_0 10 rfl rfl)
theorem dX3_isWet_11 : decode cX3_isWet 11 = .ok (.aload_n 0, 1) := dk_42 (dk_at dksX3_isWet_0 11 rfl rfl)
theorem dX3_isWet_12 : decode cX3_isWet 12 = .ok (.getfield 24, 3) := dk_180 0 24 (dk_at dksX3_isWet_0 12 rfl rfl)
theorem dX3_isWet_15 : decode cX3_isWet 15 = .ok (.iload_n 1, 1) := dk_27 (dk_at dksX3_isWet_0 15 rfl rfl)
theorem dX3_isWet_16 : decode cX3_isWet 16 = .ok (.invokevirtual 194, 3) := dk_182 0 194 (dk_at dksX3_isWet_0 16 rfl rfl)
theorem dX3_isWet_19 : decode cX3_isWet 19 = .ok (.ifCond .eq 7, 3) := dk_153 0 7 (dk_at dksX3_isWet_0 19 rfl rfl)
theorem dX3_isWet_22 : decode cX3_isWet 22 = .ok (.iconst 1, 1) := dk_4 (dk_at dksX3_isWet_0 22 rfl rfl)
theorem dX3_isWet_23 : decode cX3_isWet 23 = .ok (.goto 4, 3) := dk_167 0 4 (dk_at dksX3_isWet_1 0 rfl rfl)
theorem dX3_isWet_26 : decode cX3_isWet 26 = .ok (.iconst 0, 1) := dk_3 (dk_at dksX3_isWet_1 3 rfl rfl)
theorem dX3_isWet_27 : decode cX3_isWet 27 = .ok (.ireturn, 1) := dk_172 (dk_at dksX3_isWet_1 4 rfl rfl)
abbrev cX3_lakeAt : ByteArray := prog_10_method_8_code
def yX3_lakeAt : MethodName := ⟨RX3, "lakeAt", "(I)LLakeLevels$Lake;"⟩
def dkwX3_lakeAt_0 : List UInt8 := [42, 180, 0, 20, 27, 50, 176]
abbrev dktX3_lakeAt_0 : List UInt8 := dkwX3_lakeAt_0 ++ []
theorem dksX3_lakeAt_0 : cX3_lakeAt.data.toList.drop 0 = dktX3_lakeAt_0 := by decide +kernel
theorem dX3_lakeAt_0 : decode cX3_lakeAt 0 = .ok (.aload_n 0, 1) := dk_42 (dk_at dksX3_lakeAt_0 0 rfl rfl)
theorem dX3_lakeAt_1 : decode cX3_lakeAt 1 = .ok (.getfield 20, 3) := dk_180 0 20 (dk_at dksX3_lakeAt_0 1 rfl rfl)
theorem dX3_lakeAt_4 : decode cX3_lakeAt 4 = .ok (.iload_n 1, 1) := dk_27 (dk_at dksX3_lakeAt_0 4 rfl rfl)
theorem dX3_lakeAt_5 : decode cX3_lakeAt 5 = .ok (.aaload, 1) := dk_50 (dk_at dksX3_lakeAt_0 5 rfl rfl)
theorem dX3_lakeAt_6 : decode cX3_lakeAt 6 = .ok (.areturn, 1) := dk_176 (dk_at dksX3_lakeAt_0 6 rfl rfl)
abbrev cX3_copy : ByteArray := prog_10_method_2_code
def yX3_copy : MethodName := ⟨RX3, "copy", "()LLakeLevels$State;"⟩
def dkwX3_copy_3 : List UInt8 := [180, 0, 59, 181, 0, 59, 43, 176]
abbrev dktX3_copy_3 : List UInt8 := dkwX3_copy_3 ++ []
def dkwX3_copy_2 : List UInt8 := [132, 2, 1, 167, 255, 224, 43, 42, 180, 0, 52, 181, 0, 52, 43, 42, 180, 0, 56, 181, 0, 56, 43, 42]
abbrev dktX3_copy_2 : List UInt8 := dkwX3_copy_2 ++ dktX3_copy_3
def dkwX3_copy_1 : List UInt8 := [182, 0, 37, 162, 0, 27, 43, 42, 180, 0, 12, 28, 182, 0, 41, 192, 0, 18, 182, 0, 45, 182, 0, 48]
abbrev dktX3_copy_1 : List UInt8 := dkwX3_copy_1 ++ dktX3_copy_2
def dkwX3_copy_0 : List UInt8 := [187, 0, 13, 89, 42, 180, 0, 24, 182, 0, 28, 183, 0, 34, 76, 3, 61, 28, 42, 180, 0, 12]
abbrev dktX3_copy_0 : List UInt8 := dkwX3_copy_0 ++ dktX3_copy_1
theorem dksX3_copy_0 : cX3_copy.data.toList.drop 0 = dktX3_copy_0 := by decide +kernel
theorem dksX3_copy_1 : cX3_copy.data.toList.drop 22 = dktX3_copy_1 := dk_seg dksX3_copy_0 22 rfl rfl
theorem dksX3_copy_2 : cX3_copy.data.toList.drop 46 = dktX3_copy_2 := dk_seg dksX3_copy_1 24 rfl rfl
theorem dksX3_copy_3 : cX3_copy.data.toList.drop 70 = dktX3_copy_3 := dk_seg dksX3_copy_2 24 rfl rfl
theorem dX3_copy_0 : decode cX3_copy 0 = .ok (.new 13, 3) := dk_187 0 13 (dk_at dksX3_copy_0 0 rfl rfl)
theorem dX3_copy_3 : decode cX3_copy 3 = .ok (.dup, 1) := dk_89 (dk_at dksX3_copy_0 3 rfl rfl)
theorem dX3_copy_4 : decode cX3_copy 4 = .ok (.aload_n 0, 1) := dk_42 (dk_at dksX3_copy_0 4 rfl rfl)
theorem dX3_copy_5 : decode cX3_copy 5 = .ok (.getfield 24, 3) := dk_180 0 24 (dk_at dksX3_copy_0 5 rfl rfl)
theorem dX3_copy_8 : decode cX3_copy 8 = .ok (.invokevirtual 28, 3) := dk_182 0 28 (dk_at dksX3_copy_0 8 rfl rfl)
theorem dX3_copy_11 : decode cX3_copy 11 = .ok (.invokespecial 34, 3) := dk_183 0 34 (dk_at dksX3_copy_0 11 rfl rfl)
theorem dX3_copy_14 : decode cX3_copy 14 = .ok (.astore_n 1, 1) := dk_76 (dk_at dksX3_copy_0 14 rfl rfl)
theorem dX3_copy_15 : decode cX3_copy 15 = .ok (.iconst 0, 1) := dk_3 (dk_at dksX3_copy_0 15 rfl rfl)
theorem dX3_copy_16 : decode cX3_copy 16 = .ok (.istore_n 2, 1) := dk_61 (dk_at dksX3_copy_0 16 rfl rfl)
theorem dX3_copy_17 : decode cX3_copy 17 = .ok (.iload_n 2, 1) := dk_28 (dk_at dksX3_copy_0 17 rfl rfl)
theorem dX3_copy_18 : decode cX3_copy 18 = .ok (.aload_n 0, 1) := dk_42 (dk_at dksX3_copy_0 18 rfl rfl)
theorem dX3_copy_19 : decode cX3_copy 19 = .ok (.getfield 12, 3) := dk_180 0 12 (dk_at dksX3_copy_0 19 rfl rfl)
theorem dX3_copy_22 : decode cX3_copy 22 = .ok (.invokevirtual 37, 3) := dk_182 0 37 (dk_at dksX3_copy_1 0 rfl rfl)
theorem dX3_copy_25 : decode cX3_copy 25 = .ok (.if_icmp .ge 27, 3) := dk_162 0 27 (dk_at dksX3_copy_1 3 rfl rfl)
theorem dX3_copy_28 : decode cX3_copy 28 = .ok (.aload_n 1, 1) := dk_43 (dk_at dksX3_copy_1 6 rfl rfl)
theorem dX3_copy_29 : decode cX3_copy 29 = .ok (.aload_n 0, 1) := dk_42 (dk_at dksX3_copy_1 7 rfl rfl)
theorem dX3_copy_30 : decode cX3_copy 30 = .ok (.getfield 12, 3) := dk_180 0 12 (dk_at dksX3_copy_1 8 rfl rfl)
theorem dX3_copy_33 : decode cX3_copy 33 = .ok (.iload_n 2, 1) := dk_28 (dk_at dksX3_copy_1 11 rfl rfl)
theorem dX3_copy_34 : decode cX3_copy 34 = .ok (.invokevirtual 41, 3) := dk_182 0 41 (dk_at dksX3_copy_1 12 rfl rfl)
theorem dX3_copy_37 : decode cX3_copy 37 = .ok (.checkcast 18, 3) := dk_192 0 18 (dk_at dksX3_copy_1 15 rfl rfl)
theorem dX3_copy_40 : decode cX3_copy 40 = .ok (.invokevirtual 45, 3) := dk_182 0 45 (dk_at dksX3_copy_1 18 rfl rfl)
theorem dX3_copy_43 : decode cX3_copy 43 = .ok (.invokevirtual 48, 3) := dk_182 0 48 (dk_at dksX3_copy_1 21 rfl rfl)
theorem dX3_copy_46 : decode cX3_copy 46 = .ok (.iinc 2 1, 3) := dk_132 2 1 (dk_at dksX3_copy_2 0 rfl rfl)
theorem dX3_copy_49 : decode cX3_copy 49 = .ok (.goto (-32), 3) := dk_167 255 224 (dk_at dksX3_copy_2 3 rfl rfl)
theorem dX3_copy_52 : decode cX3_copy 52 = .ok (.aload_n 1, 1) := dk_43 (dk_at dksX3_copy_2 6 rfl rfl)
theorem dX3_copy_53 : decode cX3_copy 53 = .ok (.aload_n 0, 1) := dk_42 (dk_at dksX3_copy_2 7 rfl rfl)
theorem dX3_copy_54 : decode cX3_copy 54 = .ok (.getfield 52, 3) := dk_180 0 52 (dk_at dksX3_copy_2 8 rfl rfl)
theorem dX3_copy_57 : decode cX3_copy 57 = .ok (.putfield 52, 3) := dk_181 0 52 (dk_at dksX3_copy_2 11 rfl rfl)
theorem dX3_copy_60 : decode cX3_copy 60 = .ok (.aload_n 1, 1) := dk_43 (dk_at dksX3_copy_2 14 rfl rfl)
theorem dX3_copy_61 : decode cX3_copy 61 = .ok (.aload_n 0, 1) := dk_42 (dk_at dksX3_copy_2 15 rfl rfl)
theorem dX3_copy_62 : decode cX3_copy 62 = .ok (.getfield 56, 3) := dk_180 0 56 (dk_at dksX3_copy_2 16 rfl rfl)
theorem dX3_copy_65 : decode cX3_copy 65 = .ok (.putfield 56, 3) := dk_181 0 56 (dk_at dksX3_copy_2 19 rfl rfl)
theorem dX3_copy_68 : decode cX3_copy 68 = .ok (.aload_n 1, 1) := dk_43 (dk_at dksX3_copy_2 22 rfl rfl)
theorem dX3_copy_69 : decode cX3_copy 69 = .ok (.aload_n 0, 1) := dk_42 (dk_at dksX3_copy_2 23 rfl rfl)
theorem dX3_copy_70 : decode cX3_copy 70 = .ok (.getfield 59, 3) := dk_180 0 59 (dk_at dksX3_copy_3 0 rfl rfl)
theorem dX3_copy_73 : decode cX3_copy 73 = .ok (.putfield 59, 3) := dk_181 0 59 (dk_at dksX3_copy_3 3 rfl rfl)
theorem dX3_copy_76 : decode cX3_copy 76 = .ok (.aload_n 1, 1) := dk_43 (dk_at dksX3_copy_3 6 rfl rfl)
theorem dX3_copy_77 : decode cX3_copy 77 = .ok (.areturn, 1) := dk_176 (dk_at dksX3_copy_3 7 rfl rfl)
abbrev cX3_rain : ByteArray := prog_10_method_24_code
def yX3_rain : MethodName := ⟨RX3, "rain", "(I)V"⟩
def dkwX3_rain_1 : List UInt8 := [167, 255, 236, 177]
abbrev dktX3_rain_1 : List UInt8 := dkwX3_rain_1 ++ []
def dkwX3_rain_0 : List UInt8 := [3, 61, 28, 42, 180, 0, 24, 182, 0, 95, 162, 0, 15, 42, 28, 27, 182, 0, 124, 132, 2, 1]
abbrev dktX3_rain_0 : List UInt8 := dkwX3_rain_0 ++ dktX3_rain_1
theorem dksX3_rain_0 : cX3_rain.data.toList.drop 0 = dktX3_rain_0 := by decide +kernel
theorem dksX3_rain_1 : cX3_rain.data.toList.drop 22 = dktX3_rain_1 := dk_seg dksX3_rain_0 22 rfl rfl
theorem dX3_rain_0 : decode cX3_rain 0 = .ok (.iconst 0, 1) := dk_3 (dk_at dksX3_rain_0 0 rfl rfl)
theorem dX3_rain_1 : decode cX3_rain 1 = .ok (.istore_n 2, 1) := dk_61 (dk_at dksX3_rain_0 1 rfl rfl)
theorem dX3_rain_2 : decode cX3_rain 2 = .ok (.iload_n 2, 1) := dk_28 (dk_at dksX3_rain_0 2 rfl rfl)
theorem dX3_rain_3 : decode cX3_rain 3 = .ok (.aload_n 0, 1) := dk_42 (dk_at dksX3_rain_0 3 rfl rfl)
theorem dX3_rain_4 : decode cX3_rain 4 = .ok (.getfield 24, 3) := dk_180 0 24 (dk_at dksX3_rain_0 4 rfl rfl)
theorem dX3_rain_7 : decode cX3_rain 7 = .ok (.invokevirtual 95, 3) := dk_182 0 95 (dk_at dksX3_rain_0 7 rfl rfl)
theorem dX3_rain_10 : decode cX3_rain 10 = .ok (.if_icmp .ge 15, 3) := dk_162 0 15 (dk_at dksX3_rain_0 10 rfl rfl)
theorem dX3_rain_13 : decode cX3_rain 13 = .ok (.aload_n 0, 1) := dk_42 (dk_at dksX3_rain_0 13 rfl rfl)
theorem dX3_rain_14 : decode cX3_rain 14 = .ok (.iload_n 2, 1) := dk_28 (dk_at dksX3_rain_0 14 rfl rfl)
theorem dX3_rain_15 : decode cX3_rain 15 = .ok (.iload_n 1, 1) := dk_27 (dk_at dksX3_rain_0 15 rfl rfl)
theorem dX3_rain_16 : decode cX3_rain 16 = .ok (.invokevirtual 124, 3) := dk_182 0 124 (dk_at dksX3_rain_0 16 rfl rfl)
theorem dX3_rain_19 : decode cX3_rain 19 = .ok (.iinc 2 1, 3) := dk_132 2 1 (dk_at dksX3_rain_0 19 rfl rfl)
theorem dX3_rain_22 : decode cX3_rain 22 = .ok (.goto (-20), 3) := dk_167 255 236 (dk_at dksX3_rain_1 0 rfl rfl)
theorem dX3_rain_25 : decode cX3_rain 25 = .ok (.return_, 1) := dk_177 (dk_at dksX3_rain_1 3 rfl rfl)
abbrev cX3_pour : ByteArray := prog_10_method_10_code
def yX3_pour : MethodName := ⟨RX3, "pour", "(II)V"⟩
def dkwX3_pour_2 : List UInt8 := [181, 0, 56, 177]
abbrev dktX3_pour_2 : List UInt8 := dkwX3_pour_2 ++ []
def dkwX3_pour_1 : List UInt8 := [62, 29, 158, 255, 239, 42, 25, 4, 182, 0, 142, 58, 4, 167, 255, 228, 42, 89, 180, 0, 56, 29, 133, 97]
abbrev dktX3_pour_1 : List UInt8 := dkwX3_pour_1 ++ dktX3_pour_2
def dkwX3_pour_0 : List UInt8 := [28, 62, 42, 27, 182, 0, 135, 58, 4, 29, 158, 0, 30, 25, 4, 198, 0, 25, 25, 4, 29, 182, 0, 139]
abbrev dktX3_pour_0 : List UInt8 := dkwX3_pour_0 ++ dktX3_pour_1
theorem dksX3_pour_0 : cX3_pour.data.toList.drop 0 = dktX3_pour_0 := by decide +kernel
theorem dksX3_pour_1 : cX3_pour.data.toList.drop 24 = dktX3_pour_1 := dk_seg dksX3_pour_0 24 rfl rfl
theorem dksX3_pour_2 : cX3_pour.data.toList.drop 48 = dktX3_pour_2 := dk_seg dksX3_pour_1 24 rfl rfl
theorem dX3_pour_0 : decode cX3_pour 0 = .ok (.iload_n 2, 1) := dk_28 (dk_at dksX3_pour_0 0 rfl rfl)
theorem dX3_pour_1 : decode cX3_pour 1 = .ok (.istore_n 3, 1) := dk_62 (dk_at dksX3_pour_0 1 rfl rfl)
theorem dX3_pour_2 : decode cX3_pour 2 = .ok (.aload_n 0, 1) := dk_42 (dk_at dksX3_pour_0 2 rfl rfl)
theorem dX3_pour_3 : decode cX3_pour 3 = .ok (.iload_n 1, 1) := dk_27 (dk_at dksX3_pour_0 3 rfl rfl)
theorem dX3_pour_4 : decode cX3_pour 4 = .ok (.invokevirtual 135, 3) := dk_182 0 135 (dk_at dksX3_pour_0 4 rfl rfl)
theorem dX3_pour_7 : decode cX3_pour 7 = .ok (.astore 4, 2) := dk_58 4 (dk_at dksX3_pour_0 7 rfl rfl)
theorem dX3_pour_9 : decode cX3_pour 9 = .ok (.iload_n 3, 1) := dk_29 (dk_at dksX3_pour_0 9 rfl rfl)
theorem dX3_pour_10 : decode cX3_pour 10 = .ok (.ifCond .le 30, 3) := dk_158 0 30 (dk_at dksX3_pour_0 10 rfl rfl)
theorem dX3_pour_13 : decode cX3_pour 13 = .ok (.aload 4, 2) := dk_25 4 (dk_at dksX3_pour_0 13 rfl rfl)
theorem dX3_pour_15 : decode cX3_pour 15 = .ok (.ifnull 25, 3) := dk_198 0 25 (dk_at dksX3_pour_0 15 rfl rfl)
theorem dX3_pour_18 : decode cX3_pour 18 = .ok (.aload 4, 2) := dk_25 4 (dk_at dksX3_pour_0 18 rfl rfl)
theorem dX3_pour_20 : decode cX3_pour 20 = .ok (.iload_n 3, 1) := dk_29 (dk_at dksX3_pour_0 20 rfl rfl)
theorem dX3_pour_21 : decode cX3_pour 21 = .ok (.invokevirtual 139, 3) := dk_182 0 139 (dk_at dksX3_pour_0 21 rfl rfl)
theorem dX3_pour_24 : decode cX3_pour 24 = .ok (.istore_n 3, 1) := dk_62 (dk_at dksX3_pour_1 0 rfl rfl)
theorem dX3_pour_25 : decode cX3_pour 25 = .ok (.iload_n 3, 1) := dk_29 (dk_at dksX3_pour_1 1 rfl rfl)
theorem dX3_pour_26 : decode cX3_pour 26 = .ok (.ifCond .le (-17), 3) := dk_158 255 239 (dk_at dksX3_pour_1 2 rfl rfl)
theorem dX3_pour_29 : decode cX3_pour 29 = .ok (.aload_n 0, 1) := dk_42 (dk_at dksX3_pour_1 5 rfl rfl)
theorem dX3_pour_30 : decode cX3_pour 30 = .ok (.aload 4, 2) := dk_25 4 (dk_at dksX3_pour_1 6 rfl rfl)
theorem dX3_pour_32 : decode cX3_pour 32 = .ok (.invokevirtual 142, 3) := dk_182 0 142 (dk_at dksX3_pour_1 8 rfl rfl)
theorem dX3_pour_35 : decode cX3_pour 35 = .ok (.astore 4, 2) := dk_58 4 (dk_at dksX3_pour_1 11 rfl rfl)
theorem dX3_pour_37 : decode cX3_pour 37 = .ok (.goto (-28), 3) := dk_167 255 228 (dk_at dksX3_pour_1 13 rfl rfl)
theorem dX3_pour_40 : decode cX3_pour 40 = .ok (.aload_n 0, 1) := dk_42 (dk_at dksX3_pour_1 16 rfl rfl)
theorem dX3_pour_41 : decode cX3_pour 41 = .ok (.dup, 1) := dk_89 (dk_at dksX3_pour_1 17 rfl rfl)
theorem dX3_pour_42 : decode cX3_pour 42 = .ok (.getfield 56, 3) := dk_180 0 56 (dk_at dksX3_pour_1 18 rfl rfl)
theorem dX3_pour_45 : decode cX3_pour 45 = .ok (.iload_n 3, 1) := dk_29 (dk_at dksX3_pour_1 21 rfl rfl)
theorem dX3_pour_46 : decode cX3_pour 46 = .ok (.i2l, 1) := dk_133 (dk_at dksX3_pour_1 22 rfl rfl)
theorem dX3_pour_47 : decode cX3_pour 47 = .ok (.ladd, 1) := dk_97 (dk_at dksX3_pour_1 23 rfl rfl)
theorem dX3_pour_48 : decode cX3_pour 48 = .ok (.putfield 56, 3) := dk_181 0 56 (dk_at dksX3_pour_2 0 rfl rfl)
theorem dX3_pour_51 : decode cX3_pour 51 = .ok (.return_, 1) := dk_177 (dk_at dksX3_pour_2 3 rfl rfl)
abbrev cX3_afterFull : ByteArray := prog_10_method_11_code
def yX3_afterFull : MethodName := ⟨RX3, "afterFull", "(LLakeLevels$Lake;)LLakeLevels$Lake;"⟩
def dkwX3_afterFull_2 : List UInt8 := [42, 44, 182, 0, 159, 42, 45, 182, 0, 48, 45, 176]
abbrev dktX3_afterFull_2 : List UInt8 := dkwX3_afterFull_2 ++ []
def dkwX3_afterFull_1 : List UInt8 := [43, 180, 0, 152, 159, 0, 5, 44, 176, 42, 180, 0, 24, 43, 44, 184, 0, 155, 78, 42, 43, 182, 0, 159]
abbrev dktX3_afterFull_1 : List UInt8 := dkwX3_afterFull_1 ++ dktX3_afterFull_2
def dkwX3_afterFull_0 : List UInt8 := [42, 43, 180, 0, 146, 182, 0, 135, 77, 44, 198, 0, 21, 44, 182, 0, 149, 153, 0, 14, 44, 180, 0, 152]
abbrev dktX3_afterFull_0 : List UInt8 := dkwX3_afterFull_0 ++ dktX3_afterFull_1
theorem dksX3_afterFull_0 : cX3_afterFull.data.toList.drop 0 = dktX3_afterFull_0 := by decide +kernel
theorem dksX3_afterFull_1 : cX3_afterFull.data.toList.drop 24 = dktX3_afterFull_1 := dk_seg dksX3_afterFull_0 24 rfl rfl
theorem dksX3_afterFull_2 : cX3_afterFull.data.toList.drop 48 = dktX3_afterFull_2 := dk_seg dksX3_afterFull_1 24 rfl rfl
theorem dX3_afterFull_0 : decode cX3_afterFull 0 = .ok (.aload_n 0, 1) := dk_42 (dk_at dksX3_afterFull_0 0 rfl rfl)
theorem dX3_afterFull_1 : decode cX3_afterFull 1 = .ok (.aload_n 1, 1) := dk_43 (dk_at dksX3_afterFull_0 1 rfl rfl)
theorem dX3_afterFull_2 : decode cX3_afterFull 2 = .ok (.getfield 146, 3) := dk_180 0 146 (dk_at dksX3_afterFull_0 2 rfl rfl)
theorem dX3_afterFull_5 : decode cX3_afterFull 5 = .ok (.invokevirtual 135, 3) := dk_182 0 135 (dk_at dksX3_afterFull_0 5 rfl rfl)
theorem dX3_afterFull_8 : decode cX3_afterFull 8 = .ok (.astore_n 2, 1) := dk_77 (dk_at dksX3_afterFull_0 8 rfl rfl)
theorem dX3_afterFull_9 : decode cX3_afterFull 9 = .ok (.aload_n 2, 1) := dk_44 (dk_at dksX3_afterFull_0 9 rfl rfl)
theorem dX3_afterFull_10 : decode cX3_afterFull 10 = .ok (.ifnull 21, 3) := dk_198 0 21 (dk_at dksX3_afterFull_0 10 rfl rfl)
theorem dX3_afterFull_13 : decode cX3_afterFull 13 = .ok (.aload_n 2, 1) := dk_44 (dk_at dksX3_afterFull_0 13 rfl rfl)
theorem dX3_afterFull_14 : decode cX3_afterFull 14 = .ok (.invokevirtual 149, 3) := dk_182 0 149 (dk_at dksX3_afterFull_0 14 rfl rfl)
theorem dX3_afterFull_17 : decode cX3_afterFull 17 = .ok (.ifCond .eq 14, 3) := dk_153 0 14 (dk_at dksX3_afterFull_0 17 rfl rfl)
theorem dX3_afterFull_20 : decode cX3_afterFull 20 = .ok (.aload_n 2, 1) := dk_44 (dk_at dksX3_afterFull_0 20 rfl rfl)
theorem dX3_afterFull_21 : decode cX3_afterFull 21 = .ok (.getfield 152, 3) := dk_180 0 152 (dk_at dksX3_afterFull_0 21 rfl rfl)
theorem dX3_afterFull_24 : decode cX3_afterFull 24 = .ok (.aload_n 1, 1) := dk_43 (dk_at dksX3_afterFull_1 0 rfl rfl)
theorem dX3_afterFull_25 : decode cX3_afterFull 25 = .ok (.getfield 152, 3) := dk_180 0 152 (dk_at dksX3_afterFull_1 1 rfl rfl)
theorem dX3_afterFull_28 : decode cX3_afterFull 28 = .ok (.if_icmp .eq 5, 3) := dk_159 0 5 (dk_at dksX3_afterFull_1 4 rfl rfl)
theorem dX3_afterFull_31 : decode cX3_afterFull 31 = .ok (.aload_n 2, 1) := dk_44 (dk_at dksX3_afterFull_1 7 rfl rfl)
theorem dX3_afterFull_32 : decode cX3_afterFull 32 = .ok (.areturn, 1) := dk_176 (dk_at dksX3_afterFull_1 8 rfl rfl)
theorem dX3_afterFull_33 : decode cX3_afterFull 33 = .ok (.aload_n 0, 1) := dk_42 (dk_at dksX3_afterFull_1 9 rfl rfl)
theorem dX3_afterFull_34 : decode cX3_afterFull 34 = .ok (.getfield 24, 3) := dk_180 0 24 (dk_at dksX3_afterFull_1 10 rfl rfl)
theorem dX3_afterFull_37 : decode cX3_afterFull 37 = .ok (.aload_n 1, 1) := dk_43 (dk_at dksX3_afterFull_1 13 rfl rfl)
theorem dX3_afterFull_38 : decode cX3_afterFull 38 = .ok (.aload_n 2, 1) := dk_44 (dk_at dksX3_afterFull_1 14 rfl rfl)
theorem dX3_afterFull_39 : decode cX3_afterFull 39 = .ok (.invokestatic 155, 3) := dk_184 0 155 (dk_at dksX3_afterFull_1 15 rfl rfl)
theorem dX3_afterFull_42 : decode cX3_afterFull 42 = .ok (.astore_n 3, 1) := dk_78 (dk_at dksX3_afterFull_1 18 rfl rfl)
theorem dX3_afterFull_43 : decode cX3_afterFull 43 = .ok (.aload_n 0, 1) := dk_42 (dk_at dksX3_afterFull_1 19 rfl rfl)
theorem dX3_afterFull_44 : decode cX3_afterFull 44 = .ok (.aload_n 1, 1) := dk_43 (dk_at dksX3_afterFull_1 20 rfl rfl)
theorem dX3_afterFull_45 : decode cX3_afterFull 45 = .ok (.invokevirtual 159, 3) := dk_182 0 159 (dk_at dksX3_afterFull_1 21 rfl rfl)
theorem dX3_afterFull_48 : decode cX3_afterFull 48 = .ok (.aload_n 0, 1) := dk_42 (dk_at dksX3_afterFull_2 0 rfl rfl)
theorem dX3_afterFull_49 : decode cX3_afterFull 49 = .ok (.aload_n 2, 1) := dk_44 (dk_at dksX3_afterFull_2 1 rfl rfl)
theorem dX3_afterFull_50 : decode cX3_afterFull 50 = .ok (.invokevirtual 159, 3) := dk_182 0 159 (dk_at dksX3_afterFull_2 2 rfl rfl)
theorem dX3_afterFull_53 : decode cX3_afterFull 53 = .ok (.aload_n 0, 1) := dk_42 (dk_at dksX3_afterFull_2 5 rfl rfl)
theorem dX3_afterFull_54 : decode cX3_afterFull 54 = .ok (.aload_n 3, 1) := dk_45 (dk_at dksX3_afterFull_2 6 rfl rfl)
theorem dX3_afterFull_55 : decode cX3_afterFull 55 = .ok (.invokevirtual 48, 3) := dk_182 0 48 (dk_at dksX3_afterFull_2 7 rfl rfl)
theorem dX3_afterFull_58 : decode cX3_afterFull 58 = .ok (.aload_n 3, 1) := dk_45 (dk_at dksX3_afterFull_2 10 rfl rfl)
theorem dX3_afterFull_59 : decode cX3_afterFull 59 = .ok (.areturn, 1) := dk_176 (dk_at dksX3_afterFull_2 11 rfl rfl)
abbrev cX3_remove : ByteArray := prog_10_method_5_code
def yX3_remove : MethodName := ⟨RX3, "remove", "(LLakeLevels$Lake;)V"⟩
def dkwX3_remove_1 : List UInt8 := [166, 255, 240, 44, 185, 0, 114, 1, 0, 167, 255, 231, 177]
abbrev dktX3_remove_1 : List UInt8 := dkwX3_remove_1 ++ []
def dkwX3_remove_0 : List UInt8 := [42, 180, 0, 12, 182, 0, 100, 77, 44, 185, 0, 104, 1, 0, 153, 0, 22, 44, 185, 0, 110, 1, 0, 43]
abbrev dktX3_remove_0 : List UInt8 := dkwX3_remove_0 ++ dktX3_remove_1
theorem dksX3_remove_0 : cX3_remove.data.toList.drop 0 = dktX3_remove_0 := by decide +kernel
theorem dksX3_remove_1 : cX3_remove.data.toList.drop 24 = dktX3_remove_1 := dk_seg dksX3_remove_0 24 rfl rfl
theorem dX3_remove_0 : decode cX3_remove 0 = .ok (.aload_n 0, 1) := dk_42 (dk_at dksX3_remove_0 0 rfl rfl)
theorem dX3_remove_1 : decode cX3_remove 1 = .ok (.getfield 12, 3) := dk_180 0 12 (dk_at dksX3_remove_0 1 rfl rfl)
theorem dX3_remove_4 : decode cX3_remove 4 = .ok (.invokevirtual 100, 3) := dk_182 0 100 (dk_at dksX3_remove_0 4 rfl rfl)
theorem dX3_remove_7 : decode cX3_remove 7 = .ok (.astore_n 2, 1) := dk_77 (dk_at dksX3_remove_0 7 rfl rfl)
theorem dX3_remove_8 : decode cX3_remove 8 = .ok (.aload_n 2, 1) := dk_44 (dk_at dksX3_remove_0 8 rfl rfl)
theorem dX3_remove_9 : decode cX3_remove 9 = .ok (.invokeinterface 104 1, 5) := by decide +kernel
theorem dX3_remove_14 : decode cX3_remove 14 = .ok (.ifCond .eq 22, 3) := dk_153 0 22 (dk_at dksX3_remove_0 14 rfl rfl)
theorem dX3_remove_17 : decode cX3_remove 17 = .ok (.aload_n 2, 1) := dk_44 (dk_at dksX3_remove_0 17 rfl rfl)
theorem dX3_remove_18 : decode cX3_remove 18 = .ok (.invokeinterface 110 1, 5) := by decide +kernel
theorem dX3_remove_23 : decode cX3_remove 23 = .ok (.aload_n 1, 1) := dk_43 (dk_at dksX3_remove_0 23 rfl rfl)
theorem dX3_remove_24 : decode cX3_remove 24 = .ok (.if_acmp .ne (-16), 3) := dk_166 255 240 (dk_at dksX3_remove_1 0 rfl rfl)
theorem dX3_remove_27 : decode cX3_remove 27 = .ok (.aload_n 2, 1) := dk_44 (dk_at dksX3_remove_1 3 rfl rfl)
theorem dX3_remove_28 : decode cX3_remove 28 = .ok (.invokeinterface 114 1, 5) := by decide +kernel
theorem dX3_remove_33 : decode cX3_remove 33 = .ok (.goto (-25), 3) := dk_167 255 231 (dk_at dksX3_remove_1 9 rfl rfl)
theorem dX3_remove_36 : decode cX3_remove 36 = .ok (.return_, 1) := dk_177 (dk_at dksX3_remove_1 12 rfl rfl)
abbrev cX3_count : ByteArray := prog_10_method_20_code
def yX3_count : MethodName := ⟨RX3, "count", "(I)I"⟩
def dkwX3_count_4 : List UInt8 := [182, 0, 210, 167, 0, 7, 42, 182, 0, 213, 172]
abbrev dktX3_count_4 : List UInt8 := dkwX3_count_4 ++ []
def dkwX3_count_3 : List UInt8 := [180, 0, 74, 167, 0, 31, 42, 180, 0, 12, 182, 0, 37, 167, 0, 21, 42, 182, 0, 208, 167, 0, 14, 42]
abbrev dktX3_count_3 : List UInt8 := dkwX3_count_3 ++ dktX3_count_4
def dkwX3_count_2 : List UInt8 := [42, 180, 0, 24, 180, 0, 202, 167, 0, 51, 42, 180, 0, 24, 180, 0, 205, 167, 0, 41, 42, 180, 0, 24]
abbrev dktX3_count_2 : List UInt8 := dkwX3_count_2 ++ dktX3_count_3
def dkwX3_count_1 : List UInt8 := [170, 0, 0, 0, 0, 0, 93, 0, 0, 0, 0, 0, 0, 0, 5, 0, 0, 0, 39, 0, 0, 0, 49, 0, 0, 0, 59, 0, 0, 0, 69, 0, 0, 0, 79, 0, 0, 0, 86]
abbrev dktX3_count_1 : List UInt8 := dkwX3_count_1 ++ dktX3_count_2
def dkwX3_count_0 : List UInt8 := [27]
abbrev dktX3_count_0 : List UInt8 := dkwX3_count_0 ++ dktX3_count_1
theorem dksX3_count_0 : cX3_count.data.toList.drop 0 = dktX3_count_0 := by decide +kernel
theorem dksX3_count_1 : cX3_count.data.toList.drop 1 = dktX3_count_1 := dk_seg dksX3_count_0 1 rfl rfl
theorem dksX3_count_2 : cX3_count.data.toList.drop 40 = dktX3_count_2 := dk_seg dksX3_count_1 39 rfl rfl
theorem dksX3_count_3 : cX3_count.data.toList.drop 64 = dktX3_count_3 := dk_seg dksX3_count_2 24 rfl rfl
theorem dksX3_count_4 : cX3_count.data.toList.drop 88 = dktX3_count_4 := dk_seg dksX3_count_3 24 rfl rfl
theorem dX3_count_0 : decode cX3_count 0 = .ok (.iload_n 1, 1) := dk_27 (dk_at dksX3_count_0 0 rfl rfl)
theorem dX3_count_1 : decode cX3_count 1 = .ok (.tableswitch 93 0 5 #[39, 49, 59, 69, 79, 86], 39) := by decide +kernel
theorem dX3_count_40 : decode cX3_count 40 = .ok (.aload_n 0, 1) := dk_42 (dk_at dksX3_count_2 0 rfl rfl)
theorem dX3_count_41 : decode cX3_count 41 = .ok (.getfield 24, 3) := dk_180 0 24 (dk_at dksX3_count_2 1 rfl rfl)
theorem dX3_count_44 : decode cX3_count 44 = .ok (.getfield 202, 3) := dk_180 0 202 (dk_at dksX3_count_2 4 rfl rfl)
theorem dX3_count_47 : decode cX3_count 47 = .ok (.goto 51, 3) := dk_167 0 51 (dk_at dksX3_count_2 7 rfl rfl)
theorem dX3_count_50 : decode cX3_count 50 = .ok (.aload_n 0, 1) := dk_42 (dk_at dksX3_count_2 10 rfl rfl)
theorem dX3_count_51 : decode cX3_count 51 = .ok (.getfield 24, 3) := dk_180 0 24 (dk_at dksX3_count_2 11 rfl rfl)
theorem dX3_count_54 : decode cX3_count 54 = .ok (.getfield 205, 3) := dk_180 0 205 (dk_at dksX3_count_2 14 rfl rfl)
theorem dX3_count_57 : decode cX3_count 57 = .ok (.goto 41, 3) := dk_167 0 41 (dk_at dksX3_count_2 17 rfl rfl)
theorem dX3_count_60 : decode cX3_count 60 = .ok (.aload_n 0, 1) := dk_42 (dk_at dksX3_count_2 20 rfl rfl)
theorem dX3_count_61 : decode cX3_count 61 = .ok (.getfield 24, 3) := dk_180 0 24 (dk_at dksX3_count_2 21 rfl rfl)
theorem dX3_count_64 : decode cX3_count 64 = .ok (.getfield 74, 3) := dk_180 0 74 (dk_at dksX3_count_3 0 rfl rfl)
theorem dX3_count_67 : decode cX3_count 67 = .ok (.goto 31, 3) := dk_167 0 31 (dk_at dksX3_count_3 3 rfl rfl)
theorem dX3_count_70 : decode cX3_count 70 = .ok (.aload_n 0, 1) := dk_42 (dk_at dksX3_count_3 6 rfl rfl)
theorem dX3_count_71 : decode cX3_count 71 = .ok (.getfield 12, 3) := dk_180 0 12 (dk_at dksX3_count_3 7 rfl rfl)
theorem dX3_count_74 : decode cX3_count 74 = .ok (.invokevirtual 37, 3) := dk_182 0 37 (dk_at dksX3_count_3 10 rfl rfl)
theorem dX3_count_77 : decode cX3_count 77 = .ok (.goto 21, 3) := dk_167 0 21 (dk_at dksX3_count_3 13 rfl rfl)
theorem dX3_count_80 : decode cX3_count 80 = .ok (.aload_n 0, 1) := dk_42 (dk_at dksX3_count_3 16 rfl rfl)
theorem dX3_count_81 : decode cX3_count 81 = .ok (.invokevirtual 208, 3) := dk_182 0 208 (dk_at dksX3_count_3 17 rfl rfl)
theorem dX3_count_84 : decode cX3_count 84 = .ok (.goto 14, 3) := dk_167 0 14 (dk_at dksX3_count_3 20 rfl rfl)
theorem dX3_count_87 : decode cX3_count 87 = .ok (.aload_n 0, 1) := dk_42 (dk_at dksX3_count_3 23 rfl rfl)
theorem dX3_count_88 : decode cX3_count 88 = .ok (.invokevirtual 210, 3) := dk_182 0 210 (dk_at dksX3_count_4 0 rfl rfl)
theorem dX3_count_91 : decode cX3_count 91 = .ok (.goto 7, 3) := dk_167 0 7 (dk_at dksX3_count_4 3 rfl rfl)
theorem dX3_count_94 : decode cX3_count 94 = .ok (.aload_n 0, 1) := dk_42 (dk_at dksX3_count_4 6 rfl rfl)
theorem dX3_count_95 : decode cX3_count 95 = .ok (.invokevirtual 213, 3) := dk_182 0 213 (dk_at dksX3_count_4 7 rfl rfl)
theorem dX3_count_98 : decode cX3_count 98 = .ok (.ireturn, 1) := dk_172 (dk_at dksX3_count_4 10 rfl rfl)
abbrev cX3_wetCells : ByteArray := prog_10_method_16_code
def yX3_wetCells : MethodName := ⟨RX3, "wetCells", "()I"⟩
def dkwX3_wetCells_2 : List UInt8 := [172]
abbrev dktX3_wetCells_2 : List UInt8 := dkwX3_wetCells_2 ++ []
def dkwX3_wetCells_1 : List UInt8 := [185, 0, 110, 1, 0, 192, 0, 18, 78, 27, 45, 42, 180, 0, 24, 182, 0, 187, 96, 60, 167, 255, 226, 27]
abbrev dktX3_wetCells_1 : List UInt8 := dkwX3_wetCells_1 ++ dktX3_wetCells_2
def dkwX3_wetCells_0 : List UInt8 := [3, 60, 42, 180, 0, 12, 182, 0, 100, 77, 44, 185, 0, 104, 1, 0, 153, 0, 27, 44]
abbrev dktX3_wetCells_0 : List UInt8 := dkwX3_wetCells_0 ++ dktX3_wetCells_1
theorem dksX3_wetCells_0 : cX3_wetCells.data.toList.drop 0 = dktX3_wetCells_0 := by decide +kernel
theorem dksX3_wetCells_1 : cX3_wetCells.data.toList.drop 20 = dktX3_wetCells_1 := dk_seg dksX3_wetCells_0 20 rfl rfl
theorem dksX3_wetCells_2 : cX3_wetCells.data.toList.drop 44 = dktX3_wetCells_2 := dk_seg dksX3_wetCells_1 24 rfl rfl
theorem dX3_wetCells_0 : decode cX3_wetCells 0 = .ok (.iconst 0, 1) := dk_3 (dk_at dksX3_wetCells_0 0 rfl rfl)
theorem dX3_wetCells_1 : decode cX3_wetCells 1 = .ok (.istore_n 1, 1) := dk_60 (dk_at dksX3_wetCells_0 1 rfl rfl)
theorem dX3_wetCells_2 : decode cX3_wetCells 2 = .ok (.aload_n 0, 1) := dk_42 (dk_at dksX3_wetCells_0 2 rfl rfl)
theorem dX3_wetCells_3 : decode cX3_wetCells 3 = .ok (.getfield 12, 3) := dk_180 0 12 (dk_at dksX3_wetCells_0 3 rfl rfl)
theorem dX3_wetCells_6 : decode cX3_wetCells 6 = .ok (.invokevirtual 100, 3) := dk_182 0 100 (dk_at dksX3_wetCells_0 6 rfl rfl)
theorem dX3_wetCells_9 : decode cX3_wetCells 9 = .ok (.astore_n 2, 1) := dk_77 (dk_at dksX3_wetCells_0 9 rfl rfl)
theorem dX3_wetCells_10 : decode cX3_wetCells 10 = .ok (.aload_n 2, 1) := dk_44 (dk_at dksX3_wetCells_0 10 rfl rfl)
theorem dX3_wetCells_11 : decode cX3_wetCells 11 = .ok (.invokeinterface 104 1, 5) := by decide +kernel
theorem dX3_wetCells_16 : decode cX3_wetCells 16 = .ok (.ifCond .eq 27, 3) := dk_153 0 27 (dk_at dksX3_wetCells_0 16 rfl rfl)
theorem dX3_wetCells_19 : decode cX3_wetCells 19 = .ok (.aload_n 2, 1) := dk_44 (dk_at dksX3_wetCells_0 19 rfl rfl)
theorem dX3_wetCells_20 : decode cX3_wetCells 20 = .ok (.invokeinterface 110 1, 5) := by decide +kernel
theorem dX3_wetCells_25 : decode cX3_wetCells 25 = .ok (.checkcast 18, 3) := dk_192 0 18 (dk_at dksX3_wetCells_1 5 rfl rfl)
theorem dX3_wetCells_28 : decode cX3_wetCells 28 = .ok (.astore_n 3, 1) := dk_78 (dk_at dksX3_wetCells_1 8 rfl rfl)
theorem dX3_wetCells_29 : decode cX3_wetCells 29 = .ok (.iload_n 1, 1) := dk_27 (dk_at dksX3_wetCells_1 9 rfl rfl)
theorem dX3_wetCells_30 : decode cX3_wetCells 30 = .ok (.aload_n 3, 1) := dk_45 (dk_at dksX3_wetCells_1 10 rfl rfl)
theorem dX3_wetCells_31 : decode cX3_wetCells 31 = .ok (.aload_n 0, 1) := dk_42 (dk_at dksX3_wetCells_1 11 rfl rfl)
theorem dX3_wetCells_32 : decode cX3_wetCells 32 = .ok (.getfield 24, 3) := dk_180 0 24 (dk_at dksX3_wetCells_1 12 rfl rfl)
theorem dX3_wetCells_35 : decode cX3_wetCells 35 = .ok (.invokevirtual 187, 3) := dk_182 0 187 (dk_at dksX3_wetCells_1 15 rfl rfl)
theorem dX3_wetCells_38 : decode cX3_wetCells 38 = .ok (.iadd, 1) := dk_96 (dk_at dksX3_wetCells_1 18 rfl rfl)
theorem dX3_wetCells_39 : decode cX3_wetCells 39 = .ok (.istore_n 1, 1) := dk_60 (dk_at dksX3_wetCells_1 19 rfl rfl)
theorem dX3_wetCells_40 : decode cX3_wetCells 40 = .ok (.goto (-30), 3) := dk_167 255 226 (dk_at dksX3_wetCells_1 20 rfl rfl)
theorem dX3_wetCells_43 : decode cX3_wetCells 43 = .ok (.iload_n 1, 1) := dk_27 (dk_at dksX3_wetCells_1 23 rfl rfl)
theorem dX3_wetCells_44 : decode cX3_wetCells 44 = .ok (.ireturn, 1) := dk_172 (dk_at dksX3_wetCells_2 0 rfl rfl)
abbrev cX3_seaCells : ByteArray := prog_10_method_19_code
def yX3_seaCells : MethodName := ⟨RX3, "seaCells", "()I"⟩
def dkwX3_seaCells_1 : List UInt8 := [46, 2, 160, 0, 7, 4, 167, 0, 4, 3, 96, 60, 132, 2, 1, 167, 255, 221, 27, 172]
abbrev dktX3_seaCells_1 : List UInt8 := dkwX3_seaCells_1 ++ []
def dkwX3_seaCells_0 : List UInt8 := [3, 60, 3, 61, 28, 42, 180, 0, 24, 182, 0, 95, 162, 0, 30, 27, 42, 180, 0, 24, 180, 0, 198, 28]
abbrev dktX3_seaCells_0 : List UInt8 := dkwX3_seaCells_0 ++ dktX3_seaCells_1
theorem dksX3_seaCells_0 : cX3_seaCells.data.toList.drop 0 = dktX3_seaCells_0 := by decide +kernel
theorem dksX3_seaCells_1 : cX3_seaCells.data.toList.drop 24 = dktX3_seaCells_1 := dk_seg dksX3_seaCells_0 24 rfl rfl
theorem dX3_seaCells_0 : decode cX3_seaCells 0 = .ok (.iconst 0, 1) := dk_3 (dk_at dksX3_seaCells_0 0 rfl rfl)
theorem dX3_seaCells_1 : decode cX3_seaCells 1 = .ok (.istore_n 1, 1) := dk_60 (dk_at dksX3_seaCells_0 1 rfl rfl)
theorem dX3_seaCells_2 : decode cX3_seaCells 2 = .ok (.iconst 0, 1) := dk_3 (dk_at dksX3_seaCells_0 2 rfl rfl)
theorem dX3_seaCells_3 : decode cX3_seaCells 3 = .ok (.istore_n 2, 1) := dk_61 (dk_at dksX3_seaCells_0 3 rfl rfl)
theorem dX3_seaCells_4 : decode cX3_seaCells 4 = .ok (.iload_n 2, 1) := dk_28 (dk_at dksX3_seaCells_0 4 rfl rfl)
theorem dX3_seaCells_5 : decode cX3_seaCells 5 = .ok (.aload_n 0, 1) := dk_42 (dk_at dksX3_seaCells_0 5 rfl rfl)
theorem dX3_seaCells_6 : decode cX3_seaCells 6 = .ok (.getfield 24, 3) := dk_180 0 24 (dk_at dksX3_seaCells_0 6 rfl rfl)
theorem dX3_seaCells_9 : decode cX3_seaCells 9 = .ok (.invokevirtual 95, 3) := dk_182 0 95 (dk_at dksX3_seaCells_0 9 rfl rfl)
theorem dX3_seaCells_12 : decode cX3_seaCells 12 = .ok (.if_icmp .ge 30, 3) := dk_162 0 30 (dk_at dksX3_seaCells_0 12 rfl rfl)
theorem dX3_seaCells_15 : decode cX3_seaCells 15 = .ok (.iload_n 1, 1) := dk_27 (dk_at dksX3_seaCells_0 15 rfl rfl)
theorem dX3_seaCells_16 : decode cX3_seaCells 16 = .ok (.aload_n 0, 1) := dk_42 (dk_at dksX3_seaCells_0 16 rfl rfl)
theorem dX3_seaCells_17 : decode cX3_seaCells 17 = .ok (.getfield 24, 3) := dk_180 0 24 (dk_at dksX3_seaCells_0 17 rfl rfl)
theorem dX3_seaCells_20 : decode cX3_seaCells 20 = .ok (.getfield 198, 3) := dk_180 0 198 (dk_at dksX3_seaCells_0 20 rfl rfl)
theorem dX3_seaCells_23 : decode cX3_seaCells 23 = .ok (.iload_n 2, 1) := dk_28 (dk_at dksX3_seaCells_0 23 rfl rfl)
theorem dX3_seaCells_24 : decode cX3_seaCells 24 = .ok (.iaload, 1) := dk_46 (dk_at dksX3_seaCells_1 0 rfl rfl)
theorem dX3_seaCells_25 : decode cX3_seaCells 25 = .ok (.iconst (-1), 1) := dk_2 (dk_at dksX3_seaCells_1 1 rfl rfl)
theorem dX3_seaCells_26 : decode cX3_seaCells 26 = .ok (.if_icmp .ne 7, 3) := dk_160 0 7 (dk_at dksX3_seaCells_1 2 rfl rfl)
theorem dX3_seaCells_29 : decode cX3_seaCells 29 = .ok (.iconst 1, 1) := dk_4 (dk_at dksX3_seaCells_1 5 rfl rfl)
theorem dX3_seaCells_30 : decode cX3_seaCells 30 = .ok (.goto 4, 3) := dk_167 0 4 (dk_at dksX3_seaCells_1 6 rfl rfl)
theorem dX3_seaCells_33 : decode cX3_seaCells 33 = .ok (.iconst 0, 1) := dk_3 (dk_at dksX3_seaCells_1 9 rfl rfl)
theorem dX3_seaCells_34 : decode cX3_seaCells 34 = .ok (.iadd, 1) := dk_96 (dk_at dksX3_seaCells_1 10 rfl rfl)
theorem dX3_seaCells_35 : decode cX3_seaCells 35 = .ok (.istore_n 1, 1) := dk_60 (dk_at dksX3_seaCells_1 11 rfl rfl)
theorem dX3_seaCells_36 : decode cX3_seaCells 36 = .ok (.iinc 2 1, 3) := dk_132 2 1 (dk_at dksX3_seaCells_1 12 rfl rfl)
theorem dX3_seaCells_39 : decode cX3_seaCells 39 = .ok (.goto (-35), 3) := dk_167 255 221 (dk_at dksX3_seaCells_1 15 rfl rfl)
theorem dX3_seaCells_42 : decode cX3_seaCells 42 = .ok (.iload_n 1, 1) := dk_27 (dk_at dksX3_seaCells_1 18 rfl rfl)
theorem dX3_seaCells_43 : decode cX3_seaCells 43 = .ok (.ireturn, 1) := dk_172 (dk_at dksX3_seaCells_1 19 rfl rfl)
abbrev cX3_fullLakes : ByteArray := prog_10_method_18_code
def yX3_fullLakes : MethodName := ⟨RX3, "fullLakes", "()I"⟩
def dkwX3_fullLakes_2 : List UInt8 := [167, 255, 222, 27, 172]
abbrev dktX3_fullLakes_2 : List UInt8 := dkwX3_fullLakes_2 ++ []
def dkwX3_fullLakes_1 : List UInt8 := [185, 0, 110, 1, 0, 192, 0, 18, 78, 27, 45, 182, 0, 149, 153, 0, 7, 4, 167, 0, 4, 3, 96, 60]
abbrev dktX3_fullLakes_1 : List UInt8 := dkwX3_fullLakes_1 ++ dktX3_fullLakes_2
def dkwX3_fullLakes_0 : List UInt8 := [3, 60, 42, 180, 0, 12, 182, 0, 100, 77, 44, 185, 0, 104, 1, 0, 153, 0, 31, 44]
abbrev dktX3_fullLakes_0 : List UInt8 := dkwX3_fullLakes_0 ++ dktX3_fullLakes_1
theorem dksX3_fullLakes_0 : cX3_fullLakes.data.toList.drop 0 = dktX3_fullLakes_0 := by decide +kernel
theorem dksX3_fullLakes_1 : cX3_fullLakes.data.toList.drop 20 = dktX3_fullLakes_1 := dk_seg dksX3_fullLakes_0 20 rfl rfl
theorem dksX3_fullLakes_2 : cX3_fullLakes.data.toList.drop 44 = dktX3_fullLakes_2 := dk_seg dksX3_fullLakes_1 24 rfl rfl
theorem dX3_fullLakes_0 : decode cX3_fullLakes 0 = .ok (.iconst 0, 1) := dk_3 (dk_at dksX3_fullLakes_0 0 rfl rfl)
theorem dX3_fullLakes_1 : decode cX3_fullLakes 1 = .ok (.istore_n 1, 1) := dk_60 (dk_at dksX3_fullLakes_0 1 rfl rfl)
theorem dX3_fullLakes_2 : decode cX3_fullLakes 2 = .ok (.aload_n 0, 1) := dk_42 (dk_at dksX3_fullLakes_0 2 rfl rfl)
theorem dX3_fullLakes_3 : decode cX3_fullLakes 3 = .ok (.getfield 12, 3) := dk_180 0 12 (dk_at dksX3_fullLakes_0 3 rfl rfl)
theorem dX3_fullLakes_6 : decode cX3_fullLakes 6 = .ok (.invokevirtual 100, 3) := dk_182 0 100 (dk_at dksX3_fullLakes_0 6 rfl rfl)
theorem dX3_fullLakes_9 : decode cX3_fullLakes 9 = .ok (.astore_n 2, 1) := dk_77 (dk_at dksX3_fullLakes_0 9 rfl rfl)
theorem dX3_fullLakes_10 : decode cX3_fullLakes 10 = .ok (.aload_n 2, 1) := dk_44 (dk_at dksX3_fullLakes_0 10 rfl rfl)
theorem dX3_fullLakes_11 : decode cX3_fullLakes 11 = .ok (.invokeinterface 104 1, 5) := by decide +kernel
theorem dX3_fullLakes_16 : decode cX3_fullLakes 16 = .ok (.ifCond .eq 31, 3) := dk_153 0 31 (dk_at dksX3_fullLakes_0 16 rfl rfl)
theorem dX3_fullLakes_19 : decode cX3_fullLakes 19 = .ok (.aload_n 2, 1) := dk_44 (dk_at dksX3_fullLakes_0 19 rfl rfl)
theorem dX3_fullLakes_20 : decode cX3_fullLakes 20 = .ok (.invokeinterface 110 1, 5) := by decide +kernel
theorem dX3_fullLakes_25 : decode cX3_fullLakes 25 = .ok (.checkcast 18, 3) := dk_192 0 18 (dk_at dksX3_fullLakes_1 5 rfl rfl)
theorem dX3_fullLakes_28 : decode cX3_fullLakes 28 = .ok (.astore_n 3, 1) := dk_78 (dk_at dksX3_fullLakes_1 8 rfl rfl)
theorem dX3_fullLakes_29 : decode cX3_fullLakes 29 = .ok (.iload_n 1, 1) := dk_27 (dk_at dksX3_fullLakes_1 9 rfl rfl)
theorem dX3_fullLakes_30 : decode cX3_fullLakes 30 = .ok (.aload_n 3, 1) := dk_45 (dk_at dksX3_fullLakes_1 10 rfl rfl)
theorem dX3_fullLakes_31 : decode cX3_fullLakes 31 = .ok (.invokevirtual 149, 3) := dk_182 0 149 (dk_at dksX3_fullLakes_1 11 rfl rfl)
theorem dX3_fullLakes_34 : decode cX3_fullLakes 34 = .ok (.ifCond .eq 7, 3) := dk_153 0 7 (dk_at dksX3_fullLakes_1 14 rfl rfl)
theorem dX3_fullLakes_37 : decode cX3_fullLakes 37 = .ok (.iconst 1, 1) := dk_4 (dk_at dksX3_fullLakes_1 17 rfl rfl)
theorem dX3_fullLakes_38 : decode cX3_fullLakes 38 = .ok (.goto 4, 3) := dk_167 0 4 (dk_at dksX3_fullLakes_1 18 rfl rfl)
theorem dX3_fullLakes_41 : decode cX3_fullLakes 41 = .ok (.iconst 0, 1) := dk_3 (dk_at dksX3_fullLakes_1 21 rfl rfl)
theorem dX3_fullLakes_42 : decode cX3_fullLakes 42 = .ok (.iadd, 1) := dk_96 (dk_at dksX3_fullLakes_1 22 rfl rfl)
theorem dX3_fullLakes_43 : decode cX3_fullLakes 43 = .ok (.istore_n 1, 1) := dk_60 (dk_at dksX3_fullLakes_1 23 rfl rfl)
theorem dX3_fullLakes_44 : decode cX3_fullLakes 44 = .ok (.goto (-34), 3) := dk_167 255 222 (dk_at dksX3_fullLakes_2 0 rfl rfl)
theorem dX3_fullLakes_47 : decode cX3_fullLakes 47 = .ok (.iload_n 1, 1) := dk_27 (dk_at dksX3_fullLakes_2 3 rfl rfl)
theorem dX3_fullLakes_48 : decode cX3_fullLakes 48 = .ok (.ireturn, 1) := dk_172 (dk_at dksX3_fullLakes_2 4 rfl rfl)
abbrev cX3_cell : ByteArray := prog_10_method_21_code
def yX3_cell : MethodName := ⟨RX3, "cell", "(II)I"⟩
def dkwX3_cell_5 : List UInt8 := [167, 0, 19, 42, 180, 0, 24, 27, 182, 0, 229, 153, 0, 7, 4, 167, 0, 4, 3, 172]
abbrev dktX3_cell_5 : List UInt8 := dkwX3_cell_5 ++ []
def dkwX3_cell_4 : List UInt8 := [42, 27, 182, 0, 135, 182, 0, 222, 167, 0, 35, 42, 27, 182, 0, 226, 153, 0, 7, 4, 167, 0, 23, 3]
abbrev dktX3_cell_4 : List UInt8 := dkwX3_cell_4 ++ dktX3_cell_5
def dkwX3_cell_3 : List UInt8 := [153, 0, 7, 4, 167, 0, 63, 3, 167, 0, 59, 42, 180, 0, 24, 180, 0, 198, 27, 46, 167, 0, 47, 42]
abbrev dktX3_cell_3 : List UInt8 := dkwX3_cell_3 ++ dktX3_cell_4
def dkwX3_cell_2 : List UInt8 := [42, 180, 0, 24, 180, 0, 216, 27, 46, 167, 0, 81, 42, 180, 0, 24, 180, 0, 219, 27, 184, 0, 96]
abbrev dktX3_cell_2 : List UInt8 := dkwX3_cell_2 ++ dktX3_cell_3
def dkwX3_cell_1 : List UInt8 := [170, 0, 0, 0, 0, 0, 109, 0, 0, 0, 0, 0, 0, 0, 4, 0, 0, 0, 35, 0, 0, 0, 47, 0, 0, 0, 69, 0, 0, 0, 81, 0, 0, 0, 93]
abbrev dktX3_cell_1 : List UInt8 := dkwX3_cell_1 ++ dktX3_cell_2
def dkwX3_cell_0 : List UInt8 := [28]
abbrev dktX3_cell_0 : List UInt8 := dkwX3_cell_0 ++ dktX3_cell_1
theorem dksX3_cell_0 : cX3_cell.data.toList.drop 0 = dktX3_cell_0 := by decide +kernel
theorem dksX3_cell_1 : cX3_cell.data.toList.drop 1 = dktX3_cell_1 := dk_seg dksX3_cell_0 1 rfl rfl
theorem dksX3_cell_2 : cX3_cell.data.toList.drop 36 = dktX3_cell_2 := dk_seg dksX3_cell_1 35 rfl rfl
theorem dksX3_cell_3 : cX3_cell.data.toList.drop 59 = dktX3_cell_3 := dk_seg dksX3_cell_2 23 rfl rfl
theorem dksX3_cell_4 : cX3_cell.data.toList.drop 83 = dktX3_cell_4 := dk_seg dksX3_cell_3 24 rfl rfl
theorem dksX3_cell_5 : cX3_cell.data.toList.drop 107 = dktX3_cell_5 := dk_seg dksX3_cell_4 24 rfl rfl
theorem dX3_cell_0 : decode cX3_cell 0 = .ok (.iload_n 2, 1) := dk_28 (dk_at dksX3_cell_0 0 rfl rfl)
theorem dX3_cell_1 : decode cX3_cell 1 = .ok (.tableswitch 109 0 4 #[35, 47, 69, 81, 93], 35) := by decide +kernel
theorem dX3_cell_36 : decode cX3_cell 36 = .ok (.aload_n 0, 1) := dk_42 (dk_at dksX3_cell_2 0 rfl rfl)
theorem dX3_cell_37 : decode cX3_cell 37 = .ok (.getfield 24, 3) := dk_180 0 24 (dk_at dksX3_cell_2 1 rfl rfl)
theorem dX3_cell_40 : decode cX3_cell 40 = .ok (.getfield 216, 3) := dk_180 0 216 (dk_at dksX3_cell_2 4 rfl rfl)
theorem dX3_cell_43 : decode cX3_cell 43 = .ok (.iload_n 1, 1) := dk_27 (dk_at dksX3_cell_2 7 rfl rfl)
theorem dX3_cell_44 : decode cX3_cell 44 = .ok (.iaload, 1) := dk_46 (dk_at dksX3_cell_2 8 rfl rfl)
theorem dX3_cell_45 : decode cX3_cell 45 = .ok (.goto 81, 3) := dk_167 0 81 (dk_at dksX3_cell_2 9 rfl rfl)
theorem dX3_cell_48 : decode cX3_cell 48 = .ok (.aload_n 0, 1) := dk_42 (dk_at dksX3_cell_2 12 rfl rfl)
theorem dX3_cell_49 : decode cX3_cell 49 = .ok (.getfield 24, 3) := dk_180 0 24 (dk_at dksX3_cell_2 13 rfl rfl)
theorem dX3_cell_52 : decode cX3_cell 52 = .ok (.getfield 219, 3) := dk_180 0 219 (dk_at dksX3_cell_2 16 rfl rfl)
theorem dX3_cell_55 : decode cX3_cell 55 = .ok (.iload_n 1, 1) := dk_27 (dk_at dksX3_cell_2 19 rfl rfl)
theorem dX3_cell_56 : decode cX3_cell 56 = .ok (.invokestatic 96, 3) := dk_184 0 96 (dk_at dksX3_cell_2 20 rfl rfl)
theorem dX3_cell_59 : decode cX3_cell 59 = .ok (.ifCond .eq 7, 3) := dk_153 0 7 (dk_at dksX3_cell_3 0 rfl rfl)
theorem dX3_cell_62 : decode cX3_cell 62 = .ok (.iconst 1, 1) := dk_4 (dk_at dksX3_cell_3 3 rfl rfl)
theorem dX3_cell_63 : decode cX3_cell 63 = .ok (.goto 63, 3) := dk_167 0 63 (dk_at dksX3_cell_3 4 rfl rfl)
theorem dX3_cell_66 : decode cX3_cell 66 = .ok (.iconst 0, 1) := dk_3 (dk_at dksX3_cell_3 7 rfl rfl)
theorem dX3_cell_67 : decode cX3_cell 67 = .ok (.goto 59, 3) := dk_167 0 59 (dk_at dksX3_cell_3 8 rfl rfl)
theorem dX3_cell_70 : decode cX3_cell 70 = .ok (.aload_n 0, 1) := dk_42 (dk_at dksX3_cell_3 11 rfl rfl)
theorem dX3_cell_71 : decode cX3_cell 71 = .ok (.getfield 24, 3) := dk_180 0 24 (dk_at dksX3_cell_3 12 rfl rfl)
theorem dX3_cell_74 : decode cX3_cell 74 = .ok (.getfield 198, 3) := dk_180 0 198 (dk_at dksX3_cell_3 15 rfl rfl)
theorem dX3_cell_77 : decode cX3_cell 77 = .ok (.iload_n 1, 1) := dk_27 (dk_at dksX3_cell_3 18 rfl rfl)
theorem dX3_cell_78 : decode cX3_cell 78 = .ok (.iaload, 1) := dk_46 (dk_at dksX3_cell_3 19 rfl rfl)
theorem dX3_cell_79 : decode cX3_cell 79 = .ok (.goto 47, 3) := dk_167 0 47 (dk_at dksX3_cell_3 20 rfl rfl)
theorem dX3_cell_82 : decode cX3_cell 82 = .ok (.aload_n 0, 1) := dk_42 (dk_at dksX3_cell_3 23 rfl rfl)
theorem dX3_cell_83 : decode cX3_cell 83 = .ok (.aload_n 0, 1) := dk_42 (dk_at dksX3_cell_4 0 rfl rfl)
theorem dX3_cell_84 : decode cX3_cell 84 = .ok (.iload_n 1, 1) := dk_27 (dk_at dksX3_cell_4 1 rfl rfl)
theorem dX3_cell_85 : decode cX3_cell 85 = .ok (.invokevirtual 135, 3) := dk_182 0 135 (dk_at dksX3_cell_4 2 rfl rfl)
theorem dX3_cell_88 : decode cX3_cell 88 = .ok (.invokevirtual 222, 3) := dk_182 0 222 (dk_at dksX3_cell_4 5 rfl rfl)
theorem dX3_cell_91 : decode cX3_cell 91 = .ok (.goto 35, 3) := dk_167 0 35 (dk_at dksX3_cell_4 8 rfl rfl)
theorem dX3_cell_94 : decode cX3_cell 94 = .ok (.aload_n 0, 1) := dk_42 (dk_at dksX3_cell_4 11 rfl rfl)
theorem dX3_cell_95 : decode cX3_cell 95 = .ok (.iload_n 1, 1) := dk_27 (dk_at dksX3_cell_4 12 rfl rfl)
theorem dX3_cell_96 : decode cX3_cell 96 = .ok (.invokevirtual 226, 3) := dk_182 0 226 (dk_at dksX3_cell_4 13 rfl rfl)
theorem dX3_cell_99 : decode cX3_cell 99 = .ok (.ifCond .eq 7, 3) := dk_153 0 7 (dk_at dksX3_cell_4 16 rfl rfl)
theorem dX3_cell_102 : decode cX3_cell 102 = .ok (.iconst 1, 1) := dk_4 (dk_at dksX3_cell_4 19 rfl rfl)
theorem dX3_cell_103 : decode cX3_cell 103 = .ok (.goto 23, 3) := dk_167 0 23 (dk_at dksX3_cell_4 20 rfl rfl)
theorem dX3_cell_106 : decode cX3_cell 106 = .ok (.iconst 0, 1) := dk_3 (dk_at dksX3_cell_4 23 rfl rfl)
theorem dX3_cell_107 : decode cX3_cell 107 = .ok (.goto 19, 3) := dk_167 0 19 (dk_at dksX3_cell_5 0 rfl rfl)
theorem dX3_cell_110 : decode cX3_cell 110 = .ok (.aload_n 0, 1) := dk_42 (dk_at dksX3_cell_5 3 rfl rfl)
theorem dX3_cell_111 : decode cX3_cell 111 = .ok (.getfield 24, 3) := dk_180 0 24 (dk_at dksX3_cell_5 4 rfl rfl)
theorem dX3_cell_114 : decode cX3_cell 114 = .ok (.iload_n 1, 1) := dk_27 (dk_at dksX3_cell_5 7 rfl rfl)
theorem dX3_cell_115 : decode cX3_cell 115 = .ok (.invokevirtual 229, 3) := dk_182 0 229 (dk_at dksX3_cell_5 8 rfl rfl)
theorem dX3_cell_118 : decode cX3_cell 118 = .ok (.ifCond .eq 7, 3) := dk_153 0 7 (dk_at dksX3_cell_5 11 rfl rfl)
theorem dX3_cell_121 : decode cX3_cell 121 = .ok (.iconst 1, 1) := dk_4 (dk_at dksX3_cell_5 14 rfl rfl)
theorem dX3_cell_122 : decode cX3_cell 122 = .ok (.goto 4, 3) := dk_167 0 4 (dk_at dksX3_cell_5 15 rfl rfl)
theorem dX3_cell_125 : decode cX3_cell 125 = .ok (.iconst 0, 1) := dk_3 (dk_at dksX3_cell_5 18 rfl rfl)
theorem dX3_cell_126 : decode cX3_cell 126 = .ok (.ireturn, 1) := dk_172 (dk_at dksX3_cell_5 19 rfl rfl)
abbrev cX3_numberOf : ByteArray := prog_10_method_9_code
def yX3_numberOf : MethodName := ⟨RX3, "numberOf", "(LLakeLevels$Lake;)I"⟩
def dkwX3_numberOf_0 : List UInt8 := [43, 199, 0, 7, 2, 167, 0, 11, 42, 180, 0, 12, 43, 182, 0, 131, 172]
abbrev dktX3_numberOf_0 : List UInt8 := dkwX3_numberOf_0 ++ []
theorem dksX3_numberOf_0 : cX3_numberOf.data.toList.drop 0 = dktX3_numberOf_0 := by decide +kernel
theorem dX3_numberOf_0 : decode cX3_numberOf 0 = .ok (.aload_n 1, 1) := dk_43 (dk_at dksX3_numberOf_0 0 rfl rfl)
theorem dX3_numberOf_1 : decode cX3_numberOf 1 = .ok (.ifnonnull 7, 3) := dk_199 0 7 (dk_at dksX3_numberOf_0 1 rfl rfl)
theorem dX3_numberOf_4 : decode cX3_numberOf 4 = .ok (.iconst (-1), 1) := dk_2 (dk_at dksX3_numberOf_0 4 rfl rfl)
theorem dX3_numberOf_5 : decode cX3_numberOf 5 = .ok (.goto 11, 3) := dk_167 0 11 (dk_at dksX3_numberOf_0 5 rfl rfl)
theorem dX3_numberOf_8 : decode cX3_numberOf 8 = .ok (.aload_n 0, 1) := dk_42 (dk_at dksX3_numberOf_0 8 rfl rfl)
theorem dX3_numberOf_9 : decode cX3_numberOf 9 = .ok (.getfield 12, 3) := dk_180 0 12 (dk_at dksX3_numberOf_0 9 rfl rfl)
theorem dX3_numberOf_12 : decode cX3_numberOf 12 = .ok (.aload_n 1, 1) := dk_43 (dk_at dksX3_numberOf_0 12 rfl rfl)
theorem dX3_numberOf_13 : decode cX3_numberOf 13 = .ok (.invokevirtual 131, 3) := dk_182 0 131 (dk_at dksX3_numberOf_0 13 rfl rfl)
theorem dX3_numberOf_16 : decode cX3_numberOf 16 = .ok (.ireturn, 1) := dk_172 (dk_at dksX3_numberOf_0 16 rfl rfl)
abbrev cX3_lake : ByteArray := prog_10_method_22_code
def yX3_lake : MethodName := ⟨RX3, "lake", "(LLakeLevels$Lake;I)I"⟩
def dkwX3_lake_5 : List UInt8 := [167, 0, 14, 43, 180, 0, 146, 167, 0, 7, 43, 182, 0, 161, 172]
abbrev dktX3_lake_5 : List UInt8 := dkwX3_lake_5 ++ []
def dkwX3_lake_4 : List UInt8 := [180, 0, 24, 43, 180, 0, 85, 182, 0, 240, 167, 0, 28, 43, 180, 0, 152, 167, 0, 21, 43, 180, 0, 243]
abbrev dktX3_lake_4 : List UInt8 := dkwX3_lake_4 ++ dktX3_lake_5
def dkwX3_lake_3 : List UInt8 := [43, 180, 0, 85, 184, 0, 235, 167, 0, 53, 43, 42, 180, 0, 24, 182, 0, 187, 167, 0, 42, 42]
abbrev dktX3_lake_3 : List UInt8 := dkwX3_lake_3 ++ dktX3_lake_4
def dkwX3_lake_2 : List UInt8 := [43, 180, 0, 121, 167, 0, 80, 43, 180, 0, 232, 167, 0, 73, 43, 180, 0, 85, 184, 0, 88, 167, 0, 63]
abbrev dktX3_lake_2 : List UInt8 := dkwX3_lake_2 ++ dktX3_lake_3
def dkwX3_lake_1 : List UInt8 := [170, 0, 0, 0, 0, 0, 131, 0, 0, 0, 0, 0, 0, 0, 8, 0, 0, 0, 51, 0, 0, 0, 58, 0, 0, 0, 65, 0, 0, 0, 75, 0, 0, 0, 85, 0, 0, 0, 96, 0, 0, 0, 110, 0, 0, 0, 117, 0, 0, 0, 124]
abbrev dktX3_lake_1 : List UInt8 := dkwX3_lake_1 ++ dktX3_lake_2
def dkwX3_lake_0 : List UInt8 := [28]
abbrev dktX3_lake_0 : List UInt8 := dkwX3_lake_0 ++ dktX3_lake_1
theorem dksX3_lake_0 : cX3_lake.data.toList.drop 0 = dktX3_lake_0 := by decide +kernel
theorem dksX3_lake_1 : cX3_lake.data.toList.drop 1 = dktX3_lake_1 := dk_seg dksX3_lake_0 1 rfl rfl
theorem dksX3_lake_2 : cX3_lake.data.toList.drop 52 = dktX3_lake_2 := dk_seg dksX3_lake_1 51 rfl rfl
theorem dksX3_lake_3 : cX3_lake.data.toList.drop 76 = dktX3_lake_3 := dk_seg dksX3_lake_2 24 rfl rfl
theorem dksX3_lake_4 : cX3_lake.data.toList.drop 98 = dktX3_lake_4 := dk_seg dksX3_lake_3 22 rfl rfl
theorem dksX3_lake_5 : cX3_lake.data.toList.drop 122 = dktX3_lake_5 := dk_seg dksX3_lake_4 24 rfl rfl
theorem dX3_lake_0 : decode cX3_lake 0 = .ok (.iload_n 2, 1) := dk_28 (dk_at dksX3_lake_0 0 rfl rfl)
theorem dX3_lake_1 : decode cX3_lake 1 = .ok (.tableswitch 131 0 8 #[51, 58, 65, 75, 85, 96, 110, 117, 124], 51) := by decide +kernel
theorem dX3_lake_52 : decode cX3_lake 52 = .ok (.aload_n 1, 1) := dk_43 (dk_at dksX3_lake_2 0 rfl rfl)
theorem dX3_lake_53 : decode cX3_lake 53 = .ok (.getfield 121, 3) := dk_180 0 121 (dk_at dksX3_lake_2 1 rfl rfl)
theorem dX3_lake_56 : decode cX3_lake 56 = .ok (.goto 80, 3) := dk_167 0 80 (dk_at dksX3_lake_2 4 rfl rfl)
theorem dX3_lake_59 : decode cX3_lake 59 = .ok (.aload_n 1, 1) := dk_43 (dk_at dksX3_lake_2 7 rfl rfl)
theorem dX3_lake_60 : decode cX3_lake 60 = .ok (.getfield 232, 3) := dk_180 0 232 (dk_at dksX3_lake_2 8 rfl rfl)
theorem dX3_lake_63 : decode cX3_lake 63 = .ok (.goto 73, 3) := dk_167 0 73 (dk_at dksX3_lake_2 11 rfl rfl)
theorem dX3_lake_66 : decode cX3_lake 66 = .ok (.aload_n 1, 1) := dk_43 (dk_at dksX3_lake_2 14 rfl rfl)
theorem dX3_lake_67 : decode cX3_lake 67 = .ok (.getfield 85, 3) := dk_180 0 85 (dk_at dksX3_lake_2 15 rfl rfl)
theorem dX3_lake_70 : decode cX3_lake 70 = .ok (.invokestatic 88, 3) := dk_184 0 88 (dk_at dksX3_lake_2 18 rfl rfl)
theorem dX3_lake_73 : decode cX3_lake 73 = .ok (.goto 63, 3) := dk_167 0 63 (dk_at dksX3_lake_2 21 rfl rfl)
theorem dX3_lake_76 : decode cX3_lake 76 = .ok (.aload_n 1, 1) := dk_43 (dk_at dksX3_lake_3 0 rfl rfl)
theorem dX3_lake_77 : decode cX3_lake 77 = .ok (.getfield 85, 3) := dk_180 0 85 (dk_at dksX3_lake_3 1 rfl rfl)
theorem dX3_lake_80 : decode cX3_lake 80 = .ok (.invokestatic 235, 3) := dk_184 0 235 (dk_at dksX3_lake_3 4 rfl rfl)
theorem dX3_lake_83 : decode cX3_lake 83 = .ok (.goto 53, 3) := dk_167 0 53 (dk_at dksX3_lake_3 7 rfl rfl)
theorem dX3_lake_86 : decode cX3_lake 86 = .ok (.aload_n 1, 1) := dk_43 (dk_at dksX3_lake_3 10 rfl rfl)
theorem dX3_lake_87 : decode cX3_lake 87 = .ok (.aload_n 0, 1) := dk_42 (dk_at dksX3_lake_3 11 rfl rfl)
theorem dX3_lake_88 : decode cX3_lake 88 = .ok (.getfield 24, 3) := dk_180 0 24 (dk_at dksX3_lake_3 12 rfl rfl)
theorem dX3_lake_91 : decode cX3_lake 91 = .ok (.invokevirtual 187, 3) := dk_182 0 187 (dk_at dksX3_lake_3 15 rfl rfl)
theorem dX3_lake_94 : decode cX3_lake 94 = .ok (.goto 42, 3) := dk_167 0 42 (dk_at dksX3_lake_3 18 rfl rfl)
theorem dX3_lake_97 : decode cX3_lake 97 = .ok (.aload_n 0, 1) := dk_42 (dk_at dksX3_lake_3 21 rfl rfl)
theorem dX3_lake_98 : decode cX3_lake 98 = .ok (.getfield 24, 3) := dk_180 0 24 (dk_at dksX3_lake_4 0 rfl rfl)
theorem dX3_lake_101 : decode cX3_lake 101 = .ok (.aload_n 1, 1) := dk_43 (dk_at dksX3_lake_4 3 rfl rfl)
theorem dX3_lake_102 : decode cX3_lake 102 = .ok (.getfield 85, 3) := dk_180 0 85 (dk_at dksX3_lake_4 4 rfl rfl)
theorem dX3_lake_105 : decode cX3_lake 105 = .ok (.invokevirtual 240, 3) := dk_182 0 240 (dk_at dksX3_lake_4 7 rfl rfl)
theorem dX3_lake_108 : decode cX3_lake 108 = .ok (.goto 28, 3) := dk_167 0 28 (dk_at dksX3_lake_4 10 rfl rfl)
theorem dX3_lake_111 : decode cX3_lake 111 = .ok (.aload_n 1, 1) := dk_43 (dk_at dksX3_lake_4 13 rfl rfl)
theorem dX3_lake_112 : decode cX3_lake 112 = .ok (.getfield 152, 3) := dk_180 0 152 (dk_at dksX3_lake_4 14 rfl rfl)
theorem dX3_lake_115 : decode cX3_lake 115 = .ok (.goto 21, 3) := dk_167 0 21 (dk_at dksX3_lake_4 17 rfl rfl)
theorem dX3_lake_118 : decode cX3_lake 118 = .ok (.aload_n 1, 1) := dk_43 (dk_at dksX3_lake_4 20 rfl rfl)
theorem dX3_lake_119 : decode cX3_lake 119 = .ok (.getfield 243, 3) := dk_180 0 243 (dk_at dksX3_lake_4 21 rfl rfl)
theorem dX3_lake_122 : decode cX3_lake 122 = .ok (.goto 14, 3) := dk_167 0 14 (dk_at dksX3_lake_5 0 rfl rfl)
theorem dX3_lake_125 : decode cX3_lake 125 = .ok (.aload_n 1, 1) := dk_43 (dk_at dksX3_lake_5 3 rfl rfl)
theorem dX3_lake_126 : decode cX3_lake 126 = .ok (.getfield 146, 3) := dk_180 0 146 (dk_at dksX3_lake_5 4 rfl rfl)
theorem dX3_lake_129 : decode cX3_lake 129 = .ok (.goto 7, 3) := dk_167 0 7 (dk_at dksX3_lake_5 7 rfl rfl)
theorem dX3_lake_132 : decode cX3_lake 132 = .ok (.aload_n 1, 1) := dk_43 (dk_at dksX3_lake_5 10 rfl rfl)
theorem dX3_lake_133 : decode cX3_lake 133 = .ok (.invokevirtual 161, 3) := dk_182 0 161 (dk_at dksX3_lake_5 11 rfl rfl)
theorem dX3_lake_136 : decode cX3_lake 136 = .ok (.ireturn, 1) := dk_172 (dk_at dksX3_lake_5 14 rfl rfl)
abbrev cX3_balance : ByteArray := prog_10_method_23_code
def yX3_balance : MethodName := ⟨RX3, "balance", "(I)J"⟩
def dkwX3_balance_1 : List UInt8 := [5, 160, 0, 10, 42, 180, 0, 56, 167, 0, 7, 42, 180, 0, 59, 173]
abbrev dktX3_balance_1 : List UInt8 := dkwX3_balance_1 ++ []
def dkwX3_balance_0 : List UInt8 := [27, 154, 0, 10, 42, 180, 0, 52, 167, 0, 31, 27, 4, 160, 0, 10, 42, 182, 0, 246, 167, 0, 19, 27]
abbrev dktX3_balance_0 : List UInt8 := dkwX3_balance_0 ++ dktX3_balance_1
theorem dksX3_balance_0 : cX3_balance.data.toList.drop 0 = dktX3_balance_0 := by decide +kernel
theorem dksX3_balance_1 : cX3_balance.data.toList.drop 24 = dktX3_balance_1 := dk_seg dksX3_balance_0 24 rfl rfl
theorem dX3_balance_0 : decode cX3_balance 0 = .ok (.iload_n 1, 1) := dk_27 (dk_at dksX3_balance_0 0 rfl rfl)
theorem dX3_balance_1 : decode cX3_balance 1 = .ok (.ifCond .ne 10, 3) := dk_154 0 10 (dk_at dksX3_balance_0 1 rfl rfl)
theorem dX3_balance_4 : decode cX3_balance 4 = .ok (.aload_n 0, 1) := dk_42 (dk_at dksX3_balance_0 4 rfl rfl)
theorem dX3_balance_5 : decode cX3_balance 5 = .ok (.getfield 52, 3) := dk_180 0 52 (dk_at dksX3_balance_0 5 rfl rfl)
theorem dX3_balance_8 : decode cX3_balance 8 = .ok (.goto 31, 3) := dk_167 0 31 (dk_at dksX3_balance_0 8 rfl rfl)
theorem dX3_balance_11 : decode cX3_balance 11 = .ok (.iload_n 1, 1) := dk_27 (dk_at dksX3_balance_0 11 rfl rfl)
theorem dX3_balance_12 : decode cX3_balance 12 = .ok (.iconst 1, 1) := dk_4 (dk_at dksX3_balance_0 12 rfl rfl)
theorem dX3_balance_13 : decode cX3_balance 13 = .ok (.if_icmp .ne 10, 3) := dk_160 0 10 (dk_at dksX3_balance_0 13 rfl rfl)
theorem dX3_balance_16 : decode cX3_balance 16 = .ok (.aload_n 0, 1) := dk_42 (dk_at dksX3_balance_0 16 rfl rfl)
theorem dX3_balance_17 : decode cX3_balance 17 = .ok (.invokevirtual 246, 3) := dk_182 0 246 (dk_at dksX3_balance_0 17 rfl rfl)
theorem dX3_balance_20 : decode cX3_balance 20 = .ok (.goto 19, 3) := dk_167 0 19 (dk_at dksX3_balance_0 20 rfl rfl)
theorem dX3_balance_23 : decode cX3_balance 23 = .ok (.iload_n 1, 1) := dk_27 (dk_at dksX3_balance_0 23 rfl rfl)
theorem dX3_balance_24 : decode cX3_balance 24 = .ok (.iconst 2, 1) := dk_5 (dk_at dksX3_balance_1 0 rfl rfl)
theorem dX3_balance_25 : decode cX3_balance 25 = .ok (.if_icmp .ne 10, 3) := dk_160 0 10 (dk_at dksX3_balance_1 1 rfl rfl)
theorem dX3_balance_28 : decode cX3_balance 28 = .ok (.aload_n 0, 1) := dk_42 (dk_at dksX3_balance_1 4 rfl rfl)
theorem dX3_balance_29 : decode cX3_balance 29 = .ok (.getfield 56, 3) := dk_180 0 56 (dk_at dksX3_balance_1 5 rfl rfl)
theorem dX3_balance_32 : decode cX3_balance 32 = .ok (.goto 7, 3) := dk_167 0 7 (dk_at dksX3_balance_1 8 rfl rfl)
theorem dX3_balance_35 : decode cX3_balance 35 = .ok (.aload_n 0, 1) := dk_42 (dk_at dksX3_balance_1 11 rfl rfl)
theorem dX3_balance_36 : decode cX3_balance 36 = .ok (.getfield 59, 3) := dk_180 0 59 (dk_at dksX3_balance_1 12 rfl rfl)
theorem dX3_balance_39 : decode cX3_balance 39 = .ok (.lreturn, 1) := dk_173 (dk_at dksX3_balance_1 15 rfl rfl)
abbrev cX3_water : ByteArray := prog_10_method_15_code
def yX3_water : MethodName := ⟨RX3, "water", "()J"⟩
def dkwX3_water_1 : List UInt8 := [185, 0, 110, 1, 0, 192, 0, 18, 58, 4, 31, 25, 4, 180, 0, 121, 133, 97, 64, 167, 255, 227, 31, 173]
abbrev dktX3_water_1 : List UInt8 := dkwX3_water_1 ++ []
def dkwX3_water_0 : List UInt8 := [9, 64, 42, 180, 0, 12, 182, 0, 100, 78, 45, 185, 0, 104, 1, 0, 153, 0, 26, 45]
abbrev dktX3_water_0 : List UInt8 := dkwX3_water_0 ++ dktX3_water_1
theorem dksX3_water_0 : cX3_water.data.toList.drop 0 = dktX3_water_0 := by decide +kernel
theorem dksX3_water_1 : cX3_water.data.toList.drop 20 = dktX3_water_1 := dk_seg dksX3_water_0 20 rfl rfl
theorem dX3_water_0 : decode cX3_water 0 = .ok (.lconst 0, 1) := dk_9 (dk_at dksX3_water_0 0 rfl rfl)
theorem dX3_water_1 : decode cX3_water 1 = .ok (.lstore_n 1, 1) := dk_64 (dk_at dksX3_water_0 1 rfl rfl)
theorem dX3_water_2 : decode cX3_water 2 = .ok (.aload_n 0, 1) := dk_42 (dk_at dksX3_water_0 2 rfl rfl)
theorem dX3_water_3 : decode cX3_water 3 = .ok (.getfield 12, 3) := dk_180 0 12 (dk_at dksX3_water_0 3 rfl rfl)
theorem dX3_water_6 : decode cX3_water 6 = .ok (.invokevirtual 100, 3) := dk_182 0 100 (dk_at dksX3_water_0 6 rfl rfl)
theorem dX3_water_9 : decode cX3_water 9 = .ok (.astore_n 3, 1) := dk_78 (dk_at dksX3_water_0 9 rfl rfl)
theorem dX3_water_10 : decode cX3_water 10 = .ok (.aload_n 3, 1) := dk_45 (dk_at dksX3_water_0 10 rfl rfl)
theorem dX3_water_11 : decode cX3_water 11 = .ok (.invokeinterface 104 1, 5) := by decide +kernel
theorem dX3_water_16 : decode cX3_water 16 = .ok (.ifCond .eq 26, 3) := dk_153 0 26 (dk_at dksX3_water_0 16 rfl rfl)
theorem dX3_water_19 : decode cX3_water 19 = .ok (.aload_n 3, 1) := dk_45 (dk_at dksX3_water_0 19 rfl rfl)
theorem dX3_water_20 : decode cX3_water 20 = .ok (.invokeinterface 110 1, 5) := by decide +kernel
theorem dX3_water_25 : decode cX3_water 25 = .ok (.checkcast 18, 3) := dk_192 0 18 (dk_at dksX3_water_1 5 rfl rfl)
theorem dX3_water_28 : decode cX3_water 28 = .ok (.astore 4, 2) := dk_58 4 (dk_at dksX3_water_1 8 rfl rfl)
theorem dX3_water_30 : decode cX3_water 30 = .ok (.lload_n 1, 1) := dk_31 (dk_at dksX3_water_1 10 rfl rfl)
theorem dX3_water_31 : decode cX3_water 31 = .ok (.aload 4, 2) := dk_25 4 (dk_at dksX3_water_1 11 rfl rfl)
theorem dX3_water_33 : decode cX3_water 33 = .ok (.getfield 121, 3) := dk_180 0 121 (dk_at dksX3_water_1 13 rfl rfl)
theorem dX3_water_36 : decode cX3_water 36 = .ok (.i2l, 1) := dk_133 (dk_at dksX3_water_1 16 rfl rfl)
theorem dX3_water_37 : decode cX3_water 37 = .ok (.ladd, 1) := dk_97 (dk_at dksX3_water_1 17 rfl rfl)
theorem dX3_water_38 : decode cX3_water 38 = .ok (.lstore_n 1, 1) := dk_64 (dk_at dksX3_water_1 18 rfl rfl)
theorem dX3_water_39 : decode cX3_water 39 = .ok (.goto (-29), 3) := dk_167 255 227 (dk_at dksX3_water_1 19 rfl rfl)
theorem dX3_water_42 : decode cX3_water 42 = .ok (.lload_n 1, 1) := dk_31 (dk_at dksX3_water_1 22 rfl rfl)
theorem dX3_water_43 : decode cX3_water 43 = .ok (.lreturn, 1) := dk_173 (dk_at dksX3_water_1 23 rfl rfl)
abbrev cX3_lowestPlaces : ByteArray := prog_10_method_7_code
def yX3_lowestPlaces : MethodName := ⟨RX3, "lowestPlaces", "()[I"⟩
def dkwX3_lowestPlaces_2 : List UInt8 := [180, 0, 24, 25, 4, 180, 0, 85, 182, 0, 128, 79, 132, 2, 1, 167, 255, 218, 43, 176]
abbrev dktX3_lowestPlaces_2 : List UInt8 := dkwX3_lowestPlaces_2 ++ []
def dkwX3_lowestPlaces_1 : List UInt8 := [185, 0, 104, 1, 0, 153, 0, 35, 45, 185, 0, 110, 1, 0, 192, 0, 18, 58, 4, 43, 28, 42]
abbrev dktX3_lowestPlaces_1 : List UInt8 := dkwX3_lowestPlaces_1 ++ dktX3_lowestPlaces_2
def dkwX3_lowestPlaces_0 : List UInt8 := [42, 180, 0, 12, 182, 0, 37, 188, 10, 76, 3, 61, 42, 180, 0, 12, 182, 0, 100, 78, 45]
abbrev dktX3_lowestPlaces_0 : List UInt8 := dkwX3_lowestPlaces_0 ++ dktX3_lowestPlaces_1
theorem dksX3_lowestPlaces_0 : cX3_lowestPlaces.data.toList.drop 0 = dktX3_lowestPlaces_0 := by decide +kernel
theorem dksX3_lowestPlaces_1 : cX3_lowestPlaces.data.toList.drop 21 = dktX3_lowestPlaces_1 := dk_seg dksX3_lowestPlaces_0 21 rfl rfl
theorem dksX3_lowestPlaces_2 : cX3_lowestPlaces.data.toList.drop 43 = dktX3_lowestPlaces_2 := dk_seg dksX3_lowestPlaces_1 22 rfl rfl
theorem dX3_lowestPlaces_0 : decode cX3_lowestPlaces 0 = .ok (.aload_n 0, 1) := dk_42 (dk_at dksX3_lowestPlaces_0 0 rfl rfl)
theorem dX3_lowestPlaces_1 : decode cX3_lowestPlaces 1 = .ok (.getfield 12, 3) := dk_180 0 12 (dk_at dksX3_lowestPlaces_0 1 rfl rfl)
theorem dX3_lowestPlaces_4 : decode cX3_lowestPlaces 4 = .ok (.invokevirtual 37, 3) := dk_182 0 37 (dk_at dksX3_lowestPlaces_0 4 rfl rfl)
theorem dX3_lowestPlaces_7 : decode cX3_lowestPlaces 7 = .ok (.newarray .int, 2) := dk_188_10 (dk_at dksX3_lowestPlaces_0 7 rfl rfl)
theorem dX3_lowestPlaces_9 : decode cX3_lowestPlaces 9 = .ok (.astore_n 1, 1) := dk_76 (dk_at dksX3_lowestPlaces_0 9 rfl rfl)
theorem dX3_lowestPlaces_10 : decode cX3_lowestPlaces 10 = .ok (.iconst 0, 1) := dk_3 (dk_at dksX3_lowestPlaces_0 10 rfl rfl)
theorem dX3_lowestPlaces_11 : decode cX3_lowestPlaces 11 = .ok (.istore_n 2, 1) := dk_61 (dk_at dksX3_lowestPlaces_0 11 rfl rfl)
theorem dX3_lowestPlaces_12 : decode cX3_lowestPlaces 12 = .ok (.aload_n 0, 1) := dk_42 (dk_at dksX3_lowestPlaces_0 12 rfl rfl)
theorem dX3_lowestPlaces_13 : decode cX3_lowestPlaces 13 = .ok (.getfield 12, 3) := dk_180 0 12 (dk_at dksX3_lowestPlaces_0 13 rfl rfl)
theorem dX3_lowestPlaces_16 : decode cX3_lowestPlaces 16 = .ok (.invokevirtual 100, 3) := dk_182 0 100 (dk_at dksX3_lowestPlaces_0 16 rfl rfl)
theorem dX3_lowestPlaces_19 : decode cX3_lowestPlaces 19 = .ok (.astore_n 3, 1) := dk_78 (dk_at dksX3_lowestPlaces_0 19 rfl rfl)
theorem dX3_lowestPlaces_20 : decode cX3_lowestPlaces 20 = .ok (.aload_n 3, 1) := dk_45 (dk_at dksX3_lowestPlaces_0 20 rfl rfl)
theorem dX3_lowestPlaces_21 : decode cX3_lowestPlaces 21 = .ok (.invokeinterface 104 1, 5) := by decide +kernel
theorem dX3_lowestPlaces_26 : decode cX3_lowestPlaces 26 = .ok (.ifCond .eq 35, 3) := dk_153 0 35 (dk_at dksX3_lowestPlaces_1 5 rfl rfl)
theorem dX3_lowestPlaces_29 : decode cX3_lowestPlaces 29 = .ok (.aload_n 3, 1) := dk_45 (dk_at dksX3_lowestPlaces_1 8 rfl rfl)
theorem dX3_lowestPlaces_30 : decode cX3_lowestPlaces 30 = .ok (.invokeinterface 110 1, 5) := by decide +kernel
theorem dX3_lowestPlaces_35 : decode cX3_lowestPlaces 35 = .ok (.checkcast 18, 3) := dk_192 0 18 (dk_at dksX3_lowestPlaces_1 14 rfl rfl)
theorem dX3_lowestPlaces_38 : decode cX3_lowestPlaces 38 = .ok (.astore 4, 2) := dk_58 4 (dk_at dksX3_lowestPlaces_1 17 rfl rfl)
theorem dX3_lowestPlaces_40 : decode cX3_lowestPlaces 40 = .ok (.aload_n 1, 1) := dk_43 (dk_at dksX3_lowestPlaces_1 19 rfl rfl)
theorem dX3_lowestPlaces_41 : decode cX3_lowestPlaces 41 = .ok (.iload_n 2, 1) := dk_28 (dk_at dksX3_lowestPlaces_1 20 rfl rfl)
theorem dX3_lowestPlaces_42 : decode cX3_lowestPlaces 42 = .ok (.aload_n 0, 1) := dk_42 (dk_at dksX3_lowestPlaces_1 21 rfl rfl)
theorem dX3_lowestPlaces_43 : decode cX3_lowestPlaces 43 = .ok (.getfield 24, 3) := dk_180 0 24 (dk_at dksX3_lowestPlaces_2 0 rfl rfl)
theorem dX3_lowestPlaces_46 : decode cX3_lowestPlaces 46 = .ok (.aload 4, 2) := dk_25 4 (dk_at dksX3_lowestPlaces_2 3 rfl rfl)
theorem dX3_lowestPlaces_48 : decode cX3_lowestPlaces 48 = .ok (.getfield 85, 3) := dk_180 0 85 (dk_at dksX3_lowestPlaces_2 5 rfl rfl)
theorem dX3_lowestPlaces_51 : decode cX3_lowestPlaces 51 = .ok (.invokevirtual 128, 3) := dk_182 0 128 (dk_at dksX3_lowestPlaces_2 8 rfl rfl)
theorem dX3_lowestPlaces_54 : decode cX3_lowestPlaces 54 = .ok (.iastore, 1) := dk_79 (dk_at dksX3_lowestPlaces_2 11 rfl rfl)
theorem dX3_lowestPlaces_55 : decode cX3_lowestPlaces 55 = .ok (.iinc 2 1, 3) := dk_132 2 1 (dk_at dksX3_lowestPlaces_2 12 rfl rfl)
theorem dX3_lowestPlaces_58 : decode cX3_lowestPlaces 58 = .ok (.goto (-38), 3) := dk_167 255 218 (dk_at dksX3_lowestPlaces_2 15 rfl rfl)
theorem dX3_lowestPlaces_61 : decode cX3_lowestPlaces 61 = .ok (.aload_n 1, 1) := dk_43 (dk_at dksX3_lowestPlaces_2 18 rfl rfl)
theorem dX3_lowestPlaces_62 : decode cX3_lowestPlaces 62 = .ok (.areturn, 1) := dk_176 (dk_at dksX3_lowestPlaces_2 19 rfl rfl)
abbrev cX3_settle : ByteArray := prog_10_method_6_code
def yX3_settle : MethodName := ⟨RX3, "settle", "(Ljava/util/List;[I)V"⟩
def dkwX3_settle_2 : List UInt8 := [132, 3, 1, 167, 255, 219, 177]
abbrev dktX3_settle_2 : List UInt8 := dkwX3_settle_2 ++ []
def dkwX3_settle_1 : List UInt8 := [25, 4, 185, 0, 110, 1, 0, 192, 0, 18, 58, 5, 42, 44, 29, 46, 25, 5, 180, 0, 121, 182, 0, 124]
abbrev dktX3_settle_1 : List UInt8 := dkwX3_settle_1 ++ dktX3_settle_2
def dkwX3_settle_0 : List UInt8 := [42, 182, 0, 117, 3, 62, 43, 185, 0, 118, 1, 0, 58, 4, 25, 4, 185, 0, 104, 1, 0, 153, 0, 33]
abbrev dktX3_settle_0 : List UInt8 := dkwX3_settle_0 ++ dktX3_settle_1
theorem dksX3_settle_0 : cX3_settle.data.toList.drop 0 = dktX3_settle_0 := by decide +kernel
theorem dksX3_settle_1 : cX3_settle.data.toList.drop 24 = dktX3_settle_1 := dk_seg dksX3_settle_0 24 rfl rfl
theorem dksX3_settle_2 : cX3_settle.data.toList.drop 48 = dktX3_settle_2 := dk_seg dksX3_settle_1 24 rfl rfl
theorem dX3_settle_0 : decode cX3_settle 0 = .ok (.aload_n 0, 1) := dk_42 (dk_at dksX3_settle_0 0 rfl rfl)
theorem dX3_settle_1 : decode cX3_settle 1 = .ok (.invokevirtual 117, 3) := dk_182 0 117 (dk_at dksX3_settle_0 1 rfl rfl)
theorem dX3_settle_4 : decode cX3_settle 4 = .ok (.iconst 0, 1) := dk_3 (dk_at dksX3_settle_0 4 rfl rfl)
theorem dX3_settle_5 : decode cX3_settle 5 = .ok (.istore_n 3, 1) := dk_62 (dk_at dksX3_settle_0 5 rfl rfl)
theorem dX3_settle_6 : decode cX3_settle 6 = .ok (.aload_n 1, 1) := dk_43 (dk_at dksX3_settle_0 6 rfl rfl)
theorem dX3_settle_7 : decode cX3_settle 7 = .ok (.invokeinterface 118 1, 5) := by decide +kernel
theorem dX3_settle_12 : decode cX3_settle 12 = .ok (.astore 4, 2) := dk_58 4 (dk_at dksX3_settle_0 12 rfl rfl)
theorem dX3_settle_14 : decode cX3_settle 14 = .ok (.aload 4, 2) := dk_25 4 (dk_at dksX3_settle_0 14 rfl rfl)
theorem dX3_settle_16 : decode cX3_settle 16 = .ok (.invokeinterface 104 1, 5) := by decide +kernel
theorem dX3_settle_21 : decode cX3_settle 21 = .ok (.ifCond .eq 33, 3) := dk_153 0 33 (dk_at dksX3_settle_0 21 rfl rfl)
theorem dX3_settle_24 : decode cX3_settle 24 = .ok (.aload 4, 2) := dk_25 4 (dk_at dksX3_settle_1 0 rfl rfl)
theorem dX3_settle_26 : decode cX3_settle 26 = .ok (.invokeinterface 110 1, 5) := by decide +kernel
theorem dX3_settle_31 : decode cX3_settle 31 = .ok (.checkcast 18, 3) := dk_192 0 18 (dk_at dksX3_settle_1 7 rfl rfl)
theorem dX3_settle_34 : decode cX3_settle 34 = .ok (.astore 5, 2) := dk_58 5 (dk_at dksX3_settle_1 10 rfl rfl)
theorem dX3_settle_36 : decode cX3_settle 36 = .ok (.aload_n 0, 1) := dk_42 (dk_at dksX3_settle_1 12 rfl rfl)
theorem dX3_settle_37 : decode cX3_settle 37 = .ok (.aload_n 2, 1) := dk_44 (dk_at dksX3_settle_1 13 rfl rfl)
theorem dX3_settle_38 : decode cX3_settle 38 = .ok (.iload_n 3, 1) := dk_29 (dk_at dksX3_settle_1 14 rfl rfl)
theorem dX3_settle_39 : decode cX3_settle 39 = .ok (.iaload, 1) := dk_46 (dk_at dksX3_settle_1 15 rfl rfl)
theorem dX3_settle_40 : decode cX3_settle 40 = .ok (.aload 5, 2) := dk_25 5 (dk_at dksX3_settle_1 16 rfl rfl)
theorem dX3_settle_42 : decode cX3_settle 42 = .ok (.getfield 121, 3) := dk_180 0 121 (dk_at dksX3_settle_1 18 rfl rfl)
theorem dX3_settle_45 : decode cX3_settle 45 = .ok (.invokevirtual 124, 3) := dk_182 0 124 (dk_at dksX3_settle_1 21 rfl rfl)
theorem dX3_settle_48 : decode cX3_settle 48 = .ok (.iinc 3 1, 3) := dk_132 3 1 (dk_at dksX3_settle_2 0 rfl rfl)
theorem dX3_settle_51 : decode cX3_settle 51 = .ok (.goto (-37), 3) := dk_167 255 219 (dk_at dksX3_settle_2 3 rfl rfl)
theorem dX3_settle_54 : decode cX3_settle 54 = .ok (.return_, 1) := dk_177 (dk_at dksX3_settle_2 6 rfl rfl)
abbrev cX3_evaporate : ByteArray := prog_10_method_14_code
def yX3_evaporate : MethodName := ⟨RX3, "evaporate", "(I)J"⟩
def dkwX3_evaporate_1 : List UInt8 := [42, 180, 0, 59, 32, 101, 173]
abbrev dktX3_evaporate_1 : List UInt8 := dkwX3_evaporate_1 ++ []
def dkwX3_evaporate_0 : List UInt8 := [42, 180, 0, 59, 65, 3, 54, 4, 21, 4, 27, 162, 0, 13, 42, 182, 0, 191, 132, 4, 1, 167, 255, 243]
abbrev dktX3_evaporate_0 : List UInt8 := dkwX3_evaporate_0 ++ dktX3_evaporate_1
theorem dksX3_evaporate_0 : cX3_evaporate.data.toList.drop 0 = dktX3_evaporate_0 := by decide +kernel
theorem dksX3_evaporate_1 : cX3_evaporate.data.toList.drop 24 = dktX3_evaporate_1 := dk_seg dksX3_evaporate_0 24 rfl rfl
theorem dX3_evaporate_0 : decode cX3_evaporate 0 = .ok (.aload_n 0, 1) := dk_42 (dk_at dksX3_evaporate_0 0 rfl rfl)
theorem dX3_evaporate_1 : decode cX3_evaporate 1 = .ok (.getfield 59, 3) := dk_180 0 59 (dk_at dksX3_evaporate_0 1 rfl rfl)
theorem dX3_evaporate_4 : decode cX3_evaporate 4 = .ok (.lstore_n 2, 1) := dk_65 (dk_at dksX3_evaporate_0 4 rfl rfl)
theorem dX3_evaporate_5 : decode cX3_evaporate 5 = .ok (.iconst 0, 1) := dk_3 (dk_at dksX3_evaporate_0 5 rfl rfl)
theorem dX3_evaporate_6 : decode cX3_evaporate 6 = .ok (.istore 4, 2) := dk_54 4 (dk_at dksX3_evaporate_0 6 rfl rfl)
theorem dX3_evaporate_8 : decode cX3_evaporate 8 = .ok (.iload 4, 2) := dk_21 4 (dk_at dksX3_evaporate_0 8 rfl rfl)
theorem dX3_evaporate_10 : decode cX3_evaporate 10 = .ok (.iload_n 1, 1) := dk_27 (dk_at dksX3_evaporate_0 10 rfl rfl)
theorem dX3_evaporate_11 : decode cX3_evaporate 11 = .ok (.if_icmp .ge 13, 3) := dk_162 0 13 (dk_at dksX3_evaporate_0 11 rfl rfl)
theorem dX3_evaporate_14 : decode cX3_evaporate 14 = .ok (.aload_n 0, 1) := dk_42 (dk_at dksX3_evaporate_0 14 rfl rfl)
theorem dX3_evaporate_15 : decode cX3_evaporate 15 = .ok (.invokevirtual 191, 3) := dk_182 0 191 (dk_at dksX3_evaporate_0 15 rfl rfl)
theorem dX3_evaporate_18 : decode cX3_evaporate 18 = .ok (.iinc 4 1, 3) := dk_132 4 1 (dk_at dksX3_evaporate_0 18 rfl rfl)
theorem dX3_evaporate_21 : decode cX3_evaporate 21 = .ok (.goto (-13), 3) := dk_167 255 243 (dk_at dksX3_evaporate_0 21 rfl rfl)
theorem dX3_evaporate_24 : decode cX3_evaporate 24 = .ok (.aload_n 0, 1) := dk_42 (dk_at dksX3_evaporate_1 0 rfl rfl)
theorem dX3_evaporate_25 : decode cX3_evaporate 25 = .ok (.getfield 59, 3) := dk_180 0 59 (dk_at dksX3_evaporate_1 1 rfl rfl)
theorem dX3_evaporate_28 : decode cX3_evaporate 28 = .ok (.lload_n 2, 1) := dk_32 (dk_at dksX3_evaporate_1 4 rfl rfl)
theorem dX3_evaporate_29 : decode cX3_evaporate 29 = .ok (.lsub, 1) := dk_101 (dk_at dksX3_evaporate_1 5 rfl rfl)
theorem dX3_evaporate_30 : decode cX3_evaporate 30 = .ok (.lreturn, 1) := dk_173 (dk_at dksX3_evaporate_1 6 rfl rfl)
abbrev cX3_evaporateOnce : ByteArray := prog_10_method_13_code
def yX3_evaporateOnce : MethodName := ⟨RX3, "evaporateOnce", "()V"⟩
def dkwX3_evaporateOnce_3 : List UInt8 := [181, 0, 59, 167, 255, 201, 177]
abbrev dktX3_evaporateOnce_3 : List UInt8 := dkwX3_evaporateOnce_3 ++ []
def dkwX3_evaporateOnce_2 : List UInt8 := [182, 0, 187, 184, 0, 171, 54, 4, 42, 45, 21, 4, 182, 0, 177, 42, 89, 180, 0, 59, 21, 4, 133, 97]
abbrev dktX3_evaporateOnce_2 : List UInt8 := dkwX3_evaporateOnce_2 ++ dktX3_evaporateOnce_3
def dkwX3_evaporateOnce_1 : List UInt8 := [153, 0, 52, 44, 185, 0, 110, 1, 0, 192, 0, 18, 78, 45, 180, 0, 121, 45, 42, 180, 0, 24]
abbrev dktX3_evaporateOnce_1 : List UInt8 := dkwX3_evaporateOnce_1 ++ dktX3_evaporateOnce_2
def dkwX3_evaporateOnce_0 : List UInt8 := [187, 0, 181, 89, 42, 180, 0, 12, 183, 0, 183, 76, 43, 182, 0, 186, 77, 44, 185, 0, 104, 1, 0]
abbrev dktX3_evaporateOnce_0 : List UInt8 := dkwX3_evaporateOnce_0 ++ dktX3_evaporateOnce_1
theorem dksX3_evaporateOnce_0 : cX3_evaporateOnce.data.toList.drop 0 = dktX3_evaporateOnce_0 := by decide +kernel
theorem dksX3_evaporateOnce_1 : cX3_evaporateOnce.data.toList.drop 23 = dktX3_evaporateOnce_1 := dk_seg dksX3_evaporateOnce_0 23 rfl rfl
theorem dksX3_evaporateOnce_2 : cX3_evaporateOnce.data.toList.drop 45 = dktX3_evaporateOnce_2 := dk_seg dksX3_evaporateOnce_1 22 rfl rfl
theorem dksX3_evaporateOnce_3 : cX3_evaporateOnce.data.toList.drop 69 = dktX3_evaporateOnce_3 := dk_seg dksX3_evaporateOnce_2 24 rfl rfl
theorem dX3_evaporateOnce_0 : decode cX3_evaporateOnce 0 = .ok (.new 181, 3) := dk_187 0 181 (dk_at dksX3_evaporateOnce_0 0 rfl rfl)
theorem dX3_evaporateOnce_3 : decode cX3_evaporateOnce 3 = .ok (.dup, 1) := dk_89 (dk_at dksX3_evaporateOnce_0 3 rfl rfl)
theorem dX3_evaporateOnce_4 : decode cX3_evaporateOnce 4 = .ok (.aload_n 0, 1) := dk_42 (dk_at dksX3_evaporateOnce_0 4 rfl rfl)
theorem dX3_evaporateOnce_5 : decode cX3_evaporateOnce 5 = .ok (.getfield 12, 3) := dk_180 0 12 (dk_at dksX3_evaporateOnce_0 5 rfl rfl)
theorem dX3_evaporateOnce_8 : decode cX3_evaporateOnce 8 = .ok (.invokespecial 183, 3) := dk_183 0 183 (dk_at dksX3_evaporateOnce_0 8 rfl rfl)
theorem dX3_evaporateOnce_11 : decode cX3_evaporateOnce 11 = .ok (.astore_n 1, 1) := dk_76 (dk_at dksX3_evaporateOnce_0 11 rfl rfl)
theorem dX3_evaporateOnce_12 : decode cX3_evaporateOnce 12 = .ok (.aload_n 1, 1) := dk_43 (dk_at dksX3_evaporateOnce_0 12 rfl rfl)
theorem dX3_evaporateOnce_13 : decode cX3_evaporateOnce 13 = .ok (.invokevirtual 186, 3) := dk_182 0 186 (dk_at dksX3_evaporateOnce_0 13 rfl rfl)
theorem dX3_evaporateOnce_16 : decode cX3_evaporateOnce 16 = .ok (.astore_n 2, 1) := dk_77 (dk_at dksX3_evaporateOnce_0 16 rfl rfl)
theorem dX3_evaporateOnce_17 : decode cX3_evaporateOnce 17 = .ok (.aload_n 2, 1) := dk_44 (dk_at dksX3_evaporateOnce_0 17 rfl rfl)
theorem dX3_evaporateOnce_18 : decode cX3_evaporateOnce 18 = .ok (.invokeinterface 104 1, 5) := by decide +kernel
theorem dX3_evaporateOnce_23 : decode cX3_evaporateOnce 23 = .ok (.ifCond .eq 52, 3) := dk_153 0 52 (dk_at dksX3_evaporateOnce_1 0 rfl rfl)
theorem dX3_evaporateOnce_26 : decode cX3_evaporateOnce 26 = .ok (.aload_n 2, 1) := dk_44 (dk_at dksX3_evaporateOnce_1 3 rfl rfl)
theorem dX3_evaporateOnce_27 : decode cX3_evaporateOnce 27 = .ok (.invokeinterface 110 1, 5) := by decide +kernel
theorem dX3_evaporateOnce_32 : decode cX3_evaporateOnce 32 = .ok (.checkcast 18, 3) := dk_192 0 18 (dk_at dksX3_evaporateOnce_1 9 rfl rfl)
theorem dX3_evaporateOnce_35 : decode cX3_evaporateOnce 35 = .ok (.astore_n 3, 1) := dk_78 (dk_at dksX3_evaporateOnce_1 12 rfl rfl)
theorem dX3_evaporateOnce_36 : decode cX3_evaporateOnce 36 = .ok (.aload_n 3, 1) := dk_45 (dk_at dksX3_evaporateOnce_1 13 rfl rfl)
theorem dX3_evaporateOnce_37 : decode cX3_evaporateOnce 37 = .ok (.getfield 121, 3) := dk_180 0 121 (dk_at dksX3_evaporateOnce_1 14 rfl rfl)
theorem dX3_evaporateOnce_40 : decode cX3_evaporateOnce 40 = .ok (.aload_n 3, 1) := dk_45 (dk_at dksX3_evaporateOnce_1 17 rfl rfl)
theorem dX3_evaporateOnce_41 : decode cX3_evaporateOnce 41 = .ok (.aload_n 0, 1) := dk_42 (dk_at dksX3_evaporateOnce_1 18 rfl rfl)
theorem dX3_evaporateOnce_42 : decode cX3_evaporateOnce 42 = .ok (.getfield 24, 3) := dk_180 0 24 (dk_at dksX3_evaporateOnce_1 19 rfl rfl)
theorem dX3_evaporateOnce_45 : decode cX3_evaporateOnce 45 = .ok (.invokevirtual 187, 3) := dk_182 0 187 (dk_at dksX3_evaporateOnce_2 0 rfl rfl)
theorem dX3_evaporateOnce_48 : decode cX3_evaporateOnce 48 = .ok (.invokestatic 171, 3) := dk_184 0 171 (dk_at dksX3_evaporateOnce_2 3 rfl rfl)
theorem dX3_evaporateOnce_51 : decode cX3_evaporateOnce 51 = .ok (.istore 4, 2) := dk_54 4 (dk_at dksX3_evaporateOnce_2 6 rfl rfl)
theorem dX3_evaporateOnce_53 : decode cX3_evaporateOnce 53 = .ok (.aload_n 0, 1) := dk_42 (dk_at dksX3_evaporateOnce_2 8 rfl rfl)
theorem dX3_evaporateOnce_54 : decode cX3_evaporateOnce 54 = .ok (.aload_n 3, 1) := dk_45 (dk_at dksX3_evaporateOnce_2 9 rfl rfl)
theorem dX3_evaporateOnce_55 : decode cX3_evaporateOnce 55 = .ok (.iload 4, 2) := dk_21 4 (dk_at dksX3_evaporateOnce_2 10 rfl rfl)
theorem dX3_evaporateOnce_57 : decode cX3_evaporateOnce 57 = .ok (.invokevirtual 177, 3) := dk_182 0 177 (dk_at dksX3_evaporateOnce_2 12 rfl rfl)
theorem dX3_evaporateOnce_60 : decode cX3_evaporateOnce 60 = .ok (.aload_n 0, 1) := dk_42 (dk_at dksX3_evaporateOnce_2 15 rfl rfl)
theorem dX3_evaporateOnce_61 : decode cX3_evaporateOnce 61 = .ok (.dup, 1) := dk_89 (dk_at dksX3_evaporateOnce_2 16 rfl rfl)
theorem dX3_evaporateOnce_62 : decode cX3_evaporateOnce 62 = .ok (.getfield 59, 3) := dk_180 0 59 (dk_at dksX3_evaporateOnce_2 17 rfl rfl)
theorem dX3_evaporateOnce_65 : decode cX3_evaporateOnce 65 = .ok (.iload 4, 2) := dk_21 4 (dk_at dksX3_evaporateOnce_2 20 rfl rfl)
theorem dX3_evaporateOnce_67 : decode cX3_evaporateOnce 67 = .ok (.i2l, 1) := dk_133 (dk_at dksX3_evaporateOnce_2 22 rfl rfl)
theorem dX3_evaporateOnce_68 : decode cX3_evaporateOnce 68 = .ok (.ladd, 1) := dk_97 (dk_at dksX3_evaporateOnce_2 23 rfl rfl)
theorem dX3_evaporateOnce_69 : decode cX3_evaporateOnce 69 = .ok (.putfield 59, 3) := dk_181 0 59 (dk_at dksX3_evaporateOnce_3 0 rfl rfl)
theorem dX3_evaporateOnce_72 : decode cX3_evaporateOnce 72 = .ok (.goto (-55), 3) := dk_167 255 201 (dk_at dksX3_evaporateOnce_3 3 rfl rfl)
theorem dX3_evaporateOnce_75 : decode cX3_evaporateOnce 75 = .ok (.return_, 1) := dk_177 (dk_at dksX3_evaporateOnce_3 6 rfl rfl)
abbrev cX3_take : ByteArray := prog_10_method_12_code
def yX3_take : MethodName := ⟨RX3, "take", "(LLakeLevels$Lake;I)V"⟩
def dkwX3_take_3 : List UInt8 := [42, 43, 180, 0, 164, 21, 4, 182, 0, 177, 42, 43, 180, 0, 168, 29, 21, 4, 100, 182, 0, 177, 177]
abbrev dktX3_take_3 : List UInt8 := dkwX3_take_3 ++ []
def dkwX3_take_2 : List UInt8 := [182, 0, 48, 42, 43, 180, 0, 168, 182, 0, 48, 29, 43, 180, 0, 164, 180, 0, 121, 184, 0, 171, 54, 4]
abbrev dktX3_take_2 : List UInt8 := dkwX3_take_2 ++ dktX3_take_3
def dkwX3_take_1 : List UInt8 := [28, 43, 180, 0, 121, 43, 182, 0, 161, 100, 100, 62, 42, 43, 182, 0, 159, 42, 43, 180, 0, 164]
abbrev dktX3_take_1 : List UInt8 := dkwX3_take_1 ++ dktX3_take_2
def dkwX3_take_0 : List UInt8 := [43, 180, 0, 121, 28, 100, 43, 182, 0, 161, 161, 0, 14, 43, 89, 180, 0, 121, 28, 100, 181, 0, 121, 177]
abbrev dktX3_take_0 : List UInt8 := dkwX3_take_0 ++ dktX3_take_1
theorem dksX3_take_0 : cX3_take.data.toList.drop 0 = dktX3_take_0 := by decide +kernel
theorem dksX3_take_1 : cX3_take.data.toList.drop 24 = dktX3_take_1 := dk_seg dksX3_take_0 24 rfl rfl
theorem dksX3_take_2 : cX3_take.data.toList.drop 46 = dktX3_take_2 := dk_seg dksX3_take_1 22 rfl rfl
theorem dksX3_take_3 : cX3_take.data.toList.drop 70 = dktX3_take_3 := dk_seg dksX3_take_2 24 rfl rfl
theorem dX3_take_0 : decode cX3_take 0 = .ok (.aload_n 1, 1) := dk_43 (dk_at dksX3_take_0 0 rfl rfl)
theorem dX3_take_1 : decode cX3_take 1 = .ok (.getfield 121, 3) := dk_180 0 121 (dk_at dksX3_take_0 1 rfl rfl)
theorem dX3_take_4 : decode cX3_take 4 = .ok (.iload_n 2, 1) := dk_28 (dk_at dksX3_take_0 4 rfl rfl)
theorem dX3_take_5 : decode cX3_take 5 = .ok (.isub, 1) := dk_100 (dk_at dksX3_take_0 5 rfl rfl)
theorem dX3_take_6 : decode cX3_take 6 = .ok (.aload_n 1, 1) := dk_43 (dk_at dksX3_take_0 6 rfl rfl)
theorem dX3_take_7 : decode cX3_take 7 = .ok (.invokevirtual 161, 3) := dk_182 0 161 (dk_at dksX3_take_0 7 rfl rfl)
theorem dX3_take_10 : decode cX3_take 10 = .ok (.if_icmp .lt 14, 3) := dk_161 0 14 (dk_at dksX3_take_0 10 rfl rfl)
theorem dX3_take_13 : decode cX3_take 13 = .ok (.aload_n 1, 1) := dk_43 (dk_at dksX3_take_0 13 rfl rfl)
theorem dX3_take_14 : decode cX3_take 14 = .ok (.dup, 1) := dk_89 (dk_at dksX3_take_0 14 rfl rfl)
theorem dX3_take_15 : decode cX3_take 15 = .ok (.getfield 121, 3) := dk_180 0 121 (dk_at dksX3_take_0 15 rfl rfl)
theorem dX3_take_18 : decode cX3_take 18 = .ok (.iload_n 2, 1) := dk_28 (dk_at dksX3_take_0 18 rfl rfl)
theorem dX3_take_19 : decode cX3_take 19 = .ok (.isub, 1) := dk_100 (dk_at dksX3_take_0 19 rfl rfl)
theorem dX3_take_20 : decode cX3_take 20 = .ok (.putfield 121, 3) := dk_181 0 121 (dk_at dksX3_take_0 20 rfl rfl)
theorem dX3_take_23 : decode cX3_take 23 = .ok (.return_, 1) := dk_177 (dk_at dksX3_take_0 23 rfl rfl)
theorem dX3_take_24 : decode cX3_take 24 = .ok (.iload_n 2, 1) := dk_28 (dk_at dksX3_take_1 0 rfl rfl)
theorem dX3_take_25 : decode cX3_take 25 = .ok (.aload_n 1, 1) := dk_43 (dk_at dksX3_take_1 1 rfl rfl)
theorem dX3_take_26 : decode cX3_take 26 = .ok (.getfield 121, 3) := dk_180 0 121 (dk_at dksX3_take_1 2 rfl rfl)
theorem dX3_take_29 : decode cX3_take 29 = .ok (.aload_n 1, 1) := dk_43 (dk_at dksX3_take_1 5 rfl rfl)
theorem dX3_take_30 : decode cX3_take 30 = .ok (.invokevirtual 161, 3) := dk_182 0 161 (dk_at dksX3_take_1 6 rfl rfl)
theorem dX3_take_33 : decode cX3_take 33 = .ok (.isub, 1) := dk_100 (dk_at dksX3_take_1 9 rfl rfl)
theorem dX3_take_34 : decode cX3_take 34 = .ok (.isub, 1) := dk_100 (dk_at dksX3_take_1 10 rfl rfl)
theorem dX3_take_35 : decode cX3_take 35 = .ok (.istore_n 3, 1) := dk_62 (dk_at dksX3_take_1 11 rfl rfl)
theorem dX3_take_36 : decode cX3_take 36 = .ok (.aload_n 0, 1) := dk_42 (dk_at dksX3_take_1 12 rfl rfl)
theorem dX3_take_37 : decode cX3_take 37 = .ok (.aload_n 1, 1) := dk_43 (dk_at dksX3_take_1 13 rfl rfl)
theorem dX3_take_38 : decode cX3_take 38 = .ok (.invokevirtual 159, 3) := dk_182 0 159 (dk_at dksX3_take_1 14 rfl rfl)
theorem dX3_take_41 : decode cX3_take 41 = .ok (.aload_n 0, 1) := dk_42 (dk_at dksX3_take_1 17 rfl rfl)
theorem dX3_take_42 : decode cX3_take 42 = .ok (.aload_n 1, 1) := dk_43 (dk_at dksX3_take_1 18 rfl rfl)
theorem dX3_take_43 : decode cX3_take 43 = .ok (.getfield 164, 3) := dk_180 0 164 (dk_at dksX3_take_1 19 rfl rfl)
theorem dX3_take_46 : decode cX3_take 46 = .ok (.invokevirtual 48, 3) := dk_182 0 48 (dk_at dksX3_take_2 0 rfl rfl)
theorem dX3_take_49 : decode cX3_take 49 = .ok (.aload_n 0, 1) := dk_42 (dk_at dksX3_take_2 3 rfl rfl)
theorem dX3_take_50 : decode cX3_take 50 = .ok (.aload_n 1, 1) := dk_43 (dk_at dksX3_take_2 4 rfl rfl)
theorem dX3_take_51 : decode cX3_take 51 = .ok (.getfield 168, 3) := dk_180 0 168 (dk_at dksX3_take_2 5 rfl rfl)
theorem dX3_take_54 : decode cX3_take 54 = .ok (.invokevirtual 48, 3) := dk_182 0 48 (dk_at dksX3_take_2 8 rfl rfl)
theorem dX3_take_57 : decode cX3_take 57 = .ok (.iload_n 3, 1) := dk_29 (dk_at dksX3_take_2 11 rfl rfl)
theorem dX3_take_58 : decode cX3_take 58 = .ok (.aload_n 1, 1) := dk_43 (dk_at dksX3_take_2 12 rfl rfl)
theorem dX3_take_59 : decode cX3_take 59 = .ok (.getfield 164, 3) := dk_180 0 164 (dk_at dksX3_take_2 13 rfl rfl)
theorem dX3_take_62 : decode cX3_take 62 = .ok (.getfield 121, 3) := dk_180 0 121 (dk_at dksX3_take_2 16 rfl rfl)
theorem dX3_take_65 : decode cX3_take 65 = .ok (.invokestatic 171, 3) := dk_184 0 171 (dk_at dksX3_take_2 19 rfl rfl)
theorem dX3_take_68 : decode cX3_take 68 = .ok (.istore 4, 2) := dk_54 4 (dk_at dksX3_take_2 22 rfl rfl)
theorem dX3_take_70 : decode cX3_take 70 = .ok (.aload_n 0, 1) := dk_42 (dk_at dksX3_take_3 0 rfl rfl)
theorem dX3_take_71 : decode cX3_take 71 = .ok (.aload_n 1, 1) := dk_43 (dk_at dksX3_take_3 1 rfl rfl)
theorem dX3_take_72 : decode cX3_take 72 = .ok (.getfield 164, 3) := dk_180 0 164 (dk_at dksX3_take_3 2 rfl rfl)
theorem dX3_take_75 : decode cX3_take 75 = .ok (.iload 4, 2) := dk_21 4 (dk_at dksX3_take_3 5 rfl rfl)
theorem dX3_take_77 : decode cX3_take 77 = .ok (.invokevirtual 177, 3) := dk_182 0 177 (dk_at dksX3_take_3 7 rfl rfl)
theorem dX3_take_80 : decode cX3_take 80 = .ok (.aload_n 0, 1) := dk_42 (dk_at dksX3_take_3 10 rfl rfl)
theorem dX3_take_81 : decode cX3_take 81 = .ok (.aload_n 1, 1) := dk_43 (dk_at dksX3_take_3 11 rfl rfl)
theorem dX3_take_82 : decode cX3_take 82 = .ok (.getfield 168, 3) := dk_180 0 168 (dk_at dksX3_take_3 12 rfl rfl)
theorem dX3_take_85 : decode cX3_take 85 = .ok (.iload_n 3, 1) := dk_29 (dk_at dksX3_take_3 15 rfl rfl)
theorem dX3_take_86 : decode cX3_take 86 = .ok (.iload 4, 2) := dk_21 4 (dk_at dksX3_take_3 16 rfl rfl)
theorem dX3_take_88 : decode cX3_take 88 = .ok (.isub, 1) := dk_100 (dk_at dksX3_take_3 18 rfl rfl)
theorem dX3_take_89 : decode cX3_take 89 = .ok (.invokevirtual 177, 3) := dk_182 0 177 (dk_at dksX3_take_3 19 rfl rfl)
theorem dX3_take_92 : decode cX3_take 92 = .ok (.return_, 1) := dk_177 (dk_at dksX3_take_3 22 rfl rfl)
theorem q105 : (Jvm.Cond.initialized "LakeLevels$State") ∈ lw_all := lw_g (lw_at lw_m1 4 rfl) rfl
theorem q167 : (Jvm.Cond.fieldLinkNest "LakeLevels$State" (202 : Nat) "LakeLevels$Land" "columns" "I" "LakeLevels") ∈ lw_tbl := lw_at lw_m1 66 rfl
theorem q169 : (Jvm.Cond.fieldLinkNest "LakeLevels$State" (205 : Nat) "LakeLevels$Land" "rows" "I" "LakeLevels") ∈ lw_tbl := lw_at lw_m1 68 rfl
theorem q176 : (Jvm.Cond.fieldLinkNest "LakeLevels$State" (216 : Nat) "LakeLevels$Land" "heights" "[I" "LakeLevels") ∈ lw_tbl := lw_at lw_m1 75 rfl
theorem q181 : (Jvm.Cond.fieldLinkNest "LakeLevels$State" (219 : Nat) "LakeLevels$Land" "drains" "J" "LakeLevels") ∈ lw_tbl := lw_at lw_m1 80 rfl
theorem q187 : (Jvm.Cond.fieldLinkNest "LakeLevels$State" (198 : Nat) "LakeLevels$Land" "basins" "[I" "LakeLevels") ∈ lw_tbl := lw_at lw_m1 86 rfl
theorem q189 : (Jvm.Cond.fieldLinkNest "LakeLevels$State" (74 : Nat) "LakeLevels$Land" "basinCount" "I" "LakeLevels") ∈ lw_tbl := lw_at lw_m1 88 rfl
theorem q218 : (Jvm.Cond.instantiable "LakeLevels$State" (6 : Nat)) ∈ lw_all := lw_g (lw_at lw_m1 117 rfl) rfl
theorem q220 : (Jvm.Cond.instanceMethod ({ cls := "LakeLevels$State", name := "<init>", desc := "(LLakeLevels$Land;)V" } : Jvm.MethodName)) ∈ lw_all := lw_g (lw_at lw_m1 119 rfl) rfl
theorem q221 : (Jvm.Cond.code ({ cls := "LakeLevels$State", name := "<init>", desc := "(LLakeLevels$Land;)V" } : Jvm.MethodName) prog_10_method_1_code (2 : Nat) (Option.none : Option Jvm.ClassFile.FieldType)) ∈ lw_all := lw_g (lw_at lw_m1 120 rfl) rfl
theorem q222 : (Jvm.Cond.methodLink "LakeLevels$State" (3 : Nat) ({ cls := "java/lang/Object", name := "<init>", desc := "()V" } : Jvm.MethodName)) ∈ lw_all := lw_g (lw_at lw_m1 121 rfl) rfl
theorem q223 : (Jvm.Cond.classLink "LakeLevels$State" (9 : Nat) "java/util/LinkedList") ∈ lw_all := lw_g (lw_at lw_m1 122 rfl) rfl
theorem q225 : (Jvm.Cond.methodLink "LakeLevels$State" (11 : Nat) ({ cls := "java/util/LinkedList", name := "<init>", desc := "()V" } : Jvm.MethodName)) ∈ lw_all := lw_g (lw_at lw_m1 124 rfl) rfl
theorem q259 : (Jvm.Cond.classLink "LakeLevels$State" (18 : Nat) "LakeLevels$Lake") ∈ lw_all := lw_g (lw_at lw_m1 158 rfl) rfl
theorem q261 : (Jvm.Cond.fieldLink "LakeLevels$State" (24 : Nat) "LakeLevels$State" "land" "LLakeLevels$Land;") ∈ lw_all := lw_g (lw_at lw_m1 160 rfl) rfl
theorem q263 : (Jvm.Cond.fieldLink "LakeLevels$State" (12 : Nat) "LakeLevels$State" "lakes" "Ljava/util/LinkedList;") ∈ lw_all := lw_g (lw_at lw_m1 162 rfl) rfl
theorem q265 : (Jvm.Cond.fieldLink "LakeLevels$State" (20 : Nat) "LakeLevels$State" "byCell" "[LLakeLevels$Lake;") ∈ lw_all := lw_g (lw_at lw_m1 164 rfl) rfl
theorem q266 : (Jvm.Cond.fieldLink "LakeLevels$State" (52 : Nat) "LakeLevels$State" "poured" "J") ∈ lw_all := lw_g (lw_at lw_m1 165 rfl) rfl
theorem q268 : (Jvm.Cond.fieldLink "LakeLevels$State" (56 : Nat) "LakeLevels$State" "lost" "J") ∈ lw_all := lw_g (lw_at lw_m1 167 rfl) rfl
theorem q270 : (Jvm.Cond.fieldLink "LakeLevels$State" (59 : Nat) "LakeLevels$State" "evaporated" "J") ∈ lw_all := lw_g (lw_at lw_m1 169 rfl) rfl
theorem q272 : (Jvm.Cond.laysFinal "LakeLevels$State" "LakeLevels$State" "land" "LLakeLevels$Land;") ∈ lw_all := lw_g (lw_at lw_m1 171 rfl) rfl
theorem q273 : (Jvm.Cond.soleField "LakeLevels$State" "land") ∈ lw_all := lw_g (lw_at lw_m1 172 rfl) rfl
theorem q274 : (Jvm.Cond.laysFinal "LakeLevels$State" "LakeLevels$State" "lakes" "Ljava/util/LinkedList;") ∈ lw_all := lw_g (lw_at lw_m1 173 rfl) rfl
theorem q275 : (Jvm.Cond.soleField "LakeLevels$State" "lakes") ∈ lw_all := lw_g (lw_at lw_m1 174 rfl) rfl
theorem q276 : (Jvm.Cond.laysFinal "LakeLevels$State" "LakeLevels$State" "byCell" "[LLakeLevels$Lake;") ∈ lw_all := lw_g (lw_at lw_m1 175 rfl) rfl
theorem q277 : (Jvm.Cond.soleField "LakeLevels$State" "byCell") ∈ lw_all := lw_g (lw_at lw_m1 176 rfl) rfl
theorem q278 : (Jvm.Cond.lays "LakeLevels$State" "LakeLevels$State" "poured" "J") ∈ lw_all := lw_g (lw_at lw_m1 177 rfl) rfl
theorem q279 : (Jvm.Cond.soleField "LakeLevels$State" "poured") ∈ lw_all := lw_g (lw_at lw_m1 178 rfl) rfl
theorem q280 : (Jvm.Cond.lays "LakeLevels$State" "LakeLevels$State" "lost" "J") ∈ lw_all := lw_g (lw_at lw_m1 179 rfl) rfl
theorem q281 : (Jvm.Cond.soleField "LakeLevels$State" "lost") ∈ lw_all := lw_g (lw_at lw_m1 180 rfl) rfl
theorem q282 : (Jvm.Cond.lays "LakeLevels$State" "LakeLevels$State" "evaporated" "J") ∈ lw_all := lw_g (lw_at lw_m1 181 rfl) rfl
theorem q283 : (Jvm.Cond.soleField "LakeLevels$State" "evaporated") ∈ lw_all := lw_g (lw_at lw_m1 182 rfl) rfl
theorem q284 : (Jvm.Cond.superclass "LakeLevels$State" "java/lang/Object") ∈ lw_all := lw_g (lw_at lw_m1 183 rfl) rfl
theorem q286 : (Jvm.Cond.instanceMethod ({ cls := "LakeLevels$State", name := "find", desc := "()V" } : Jvm.MethodName)) ∈ lw_all := lw_g (lw_at lw_m1 185 rfl) rfl
theorem q287 : (Jvm.Cond.selects "LakeLevels$State" ({ cls := "LakeLevels$State", name := "find", desc := "()V" } : Jvm.MethodName) ({ cls := "LakeLevels$State", name := "find", desc := "()V" } : Jvm.MethodName)) ∈ lw_all := lw_g (lw_at lw_m1 186 rfl) rfl
theorem q288 : (Jvm.Cond.code ({ cls := "LakeLevels$State", name := "find", desc := "()V" } : Jvm.MethodName) prog_10_method_3_code (2 : Nat) (Option.none : Option Jvm.ClassFile.FieldType)) ∈ lw_all := lw_g (lw_at lw_m1 187 rfl) rfl
theorem q289 : (Jvm.Cond.methodLink "LakeLevels$State" (62 : Nat) ({ cls := "LakeLevels$Land", name := "find", desc := "()V" } : Jvm.MethodName)) ∈ lw_all := lw_g (lw_at lw_m1 188 rfl) rfl
theorem q449 : (Jvm.Cond.selects "LakeLevels$State" ({ cls := "java/lang/Object", name := "getClass", desc := "()Ljava/lang/Class;" } : Jvm.MethodName) ({ cls := "java/lang/Object", name := "getClass", desc := "()Ljava/lang/Class;" } : Jvm.MethodName)) ∈ lw_all := lw_g (lw_at lw_m2 108 rfl) rfl
theorem q555 : (Jvm.Cond.methodLink "LakeLevels$State" (65 : Nat) ({ cls := "java/util/LinkedList", name := "clear", desc := "()V" } : Jvm.MethodName)) ∈ lw_all := lw_g (lw_at lw_m2 214 rfl) rfl
theorem q559 : (Jvm.Cond.methodLink "LakeLevels$State" (68 : Nat) ({ cls := "java/util/Arrays", name := "fill", desc := "([Ljava/lang/Object;Ljava/lang/Object;)V" } : Jvm.MethodName)) ∈ lw_all := lw_g (lw_at lw_m2 218 rfl) rfl
theorem q563 : (Jvm.Cond.methodLink "LakeLevels$State" (78 : Nat) ({ cls := "LakeLevels$Land", name := "basinCells", desc := "(I)J" } : Jvm.MethodName)) ∈ lw_all := lw_g (lw_at lw_m2 222 rfl) rfl
theorem q567 : (Jvm.Cond.methodLink "LakeLevels$State" (82 : Nat) ({ cls := "LakeLevels$Lake", name := "<init>", desc := "(LLakeLevels$Land;J)V" } : Jvm.MethodName)) ∈ lw_all := lw_g (lw_at lw_m2 226 rfl) rfl
theorem q584 : (Jvm.Cond.fieldLinkNest "LakeLevels$State" (85 : Nat) "LakeLevels$Lake" "cells" "J" "LakeLevels") ∈ lw_tbl := lw_at lw_m3 3 rfl
theorem q587 : (Jvm.Cond.fieldLinkNest "LakeLevels$State" (152 : Nat) "LakeLevels$Lake" "threshold" "I" "LakeLevels") ∈ lw_tbl := lw_at lw_m3 6 rfl
theorem q589 : (Jvm.Cond.fieldLinkNest "LakeLevels$State" (243 : Nat) "LakeLevels$Lake" "from" "I" "LakeLevels") ∈ lw_tbl := lw_at lw_m3 8 rfl
theorem q591 : (Jvm.Cond.fieldLinkNest "LakeLevels$State" (146 : Nat) "LakeLevels$Lake" "to" "I" "LakeLevels") ∈ lw_tbl := lw_at lw_m3 10 rfl
theorem q593 : (Jvm.Cond.fieldLinkNest "LakeLevels$State" (232 : Nat) "LakeLevels$Lake" "capacity" "I" "LakeLevels") ∈ lw_tbl := lw_at lw_m3 12 rfl
theorem q595 : (Jvm.Cond.fieldLinkNest "LakeLevels$State" (121 : Nat) "LakeLevels$Lake" "volume" "I" "LakeLevels") ∈ lw_tbl := lw_at lw_m3 14 rfl
theorem q598 : (Jvm.Cond.fieldLinkNest "LakeLevels$State" (164 : Nat) "LakeLevels$Lake" "first" "LLakeLevels$Lake;" "LakeLevels") ∈ lw_tbl := lw_at lw_m3 17 rfl
theorem q600 : (Jvm.Cond.fieldLinkNest "LakeLevels$State" (168 : Nat) "LakeLevels$Lake" "second" "LLakeLevels$Lake;" "LakeLevels") ∈ lw_tbl := lw_at lw_m3 19 rfl
theorem q618 : (Jvm.Cond.methodLink "LakeLevels$State" (48 : Nat) ({ cls := "LakeLevels$State", name := "add", desc := "(LLakeLevels$Lake;)V" } : Jvm.MethodName)) ∈ lw_all := lw_g (lw_at lw_m3 37 rfl) rfl
theorem q619 : (Jvm.Cond.privateMethod ({ cls := "LakeLevels$State", name := "add", desc := "(LLakeLevels$Lake;)V" } : Jvm.MethodName)) ∈ lw_tbl := lw_at lw_m3 38 rfl
theorem q620 : (Jvm.Cond.instanceMethod ({ cls := "LakeLevels$State", name := "add", desc := "(LLakeLevels$Lake;)V" } : Jvm.MethodName)) ∈ lw_all := lw_g (lw_at lw_m3 39 rfl) rfl
theorem q621 : (Jvm.Cond.code ({ cls := "LakeLevels$State", name := "add", desc := "(LLakeLevels$Lake;)V" } : Jvm.MethodName) prog_10_method_4_code (4 : Nat) (Option.none : Option Jvm.ClassFile.FieldType)) ∈ lw_all := lw_g (lw_at lw_m3 40 rfl) rfl
theorem q622 : (Jvm.Cond.methodLink "LakeLevels$State" (37 : Nat) ({ cls := "java/util/LinkedList", name := "size", desc := "()I" } : Jvm.MethodName)) ∈ lw_all := lw_g (lw_at lw_m3 41 rfl) rfl
theorem q626 : (Jvm.Cond.methodLink "LakeLevels$State" (41 : Nat) ({ cls := "java/util/LinkedList", name := "get", desc := "(I)Ljava/lang/Object;" } : Jvm.MethodName)) ∈ lw_all := lw_g (lw_at lw_m3 45 rfl) rfl
theorem q912 : (Jvm.Cond.methodLinkNest "LakeLevels$State" (88 : Nat) ({ cls := "LakeLevels", name := "lowest", desc := "(J)I" } : Jvm.MethodName) "LakeLevels") ∈ lw_tbl := lw_at lw_m4 91 rfl
theorem q913 : (Jvm.Cond.methodLink "LakeLevels$State" (92 : Nat) ({ cls := "java/util/LinkedList", name := "add", desc := "(ILjava/lang/Object;)V" } : Jvm.MethodName)) ∈ lw_all := lw_g (lw_at lw_m4 92 rfl) rfl
theorem q954 : (Jvm.Cond.methodLink "LakeLevels$State" (95 : Nat) ({ cls := "LakeLevels$Land", name := "size", desc := "()I" } : Jvm.MethodName)) ∈ lw_all := lw_g (lw_at lw_m4 133 rfl) rfl
theorem q955 : (Jvm.Cond.methodLinkNest "LakeLevels$State" (96 : Nat) ({ cls := "LakeLevels", name := "has", desc := "(JI)Z" } : Jvm.MethodName) "LakeLevels") ∈ lw_tbl := lw_at lw_m4 134 rfl
theorem q987 : (Jvm.Cond.instanceMethod ({ cls := "LakeLevels$State", name := "isWet", desc := "(I)Z" } : Jvm.MethodName)) ∈ lw_all := lw_g (lw_at lw_m4 166 rfl) rfl
theorem q988 : (Jvm.Cond.selects "LakeLevels$State" ({ cls := "LakeLevels$State", name := "isWet", desc := "(I)Z" } : Jvm.MethodName) ({ cls := "LakeLevels$State", name := "isWet", desc := "(I)Z" } : Jvm.MethodName)) ∈ lw_all := lw_g (lw_at lw_m4 167 rfl) rfl
theorem q989 : (Jvm.Cond.code ({ cls := "LakeLevels$State", name := "isWet", desc := "(I)Z" } : Jvm.MethodName) prog_10_method_17_code (3 : Nat) (Option.some Jvm.ClassFile.FieldType.boolean)) ∈ lw_all := lw_g (lw_at lw_m4 168 rfl) rfl
theorem q990 : (Jvm.Cond.methodLink "LakeLevels$State" (135 : Nat) ({ cls := "LakeLevels$State", name := "lakeAt", desc := "(I)LLakeLevels$Lake;" } : Jvm.MethodName)) ∈ lw_all := lw_g (lw_at lw_m4 169 rfl) rfl
theorem q991 : (Jvm.Cond.instanceMethod ({ cls := "LakeLevels$State", name := "lakeAt", desc := "(I)LLakeLevels$Lake;" } : Jvm.MethodName)) ∈ lw_all := lw_g (lw_at lw_m4 170 rfl) rfl
theorem q992 : (Jvm.Cond.selects "LakeLevels$State" ({ cls := "LakeLevels$State", name := "lakeAt", desc := "(I)LLakeLevels$Lake;" } : Jvm.MethodName) ({ cls := "LakeLevels$State", name := "lakeAt", desc := "(I)LLakeLevels$Lake;" } : Jvm.MethodName)) ∈ lw_all := lw_g (lw_at lw_m4 171 rfl) rfl
theorem q993 : (Jvm.Cond.code ({ cls := "LakeLevels$State", name := "lakeAt", desc := "(I)LLakeLevels$Lake;" } : Jvm.MethodName) prog_10_method_8_code (2 : Nat) (Option.some (Jvm.ClassFile.FieldType.object "LakeLevels$Lake"))) ∈ lw_all := lw_g (lw_at lw_m4 172 rfl) rfl
theorem q994 : (Jvm.Cond.methodLink "LakeLevels$State" (194 : Nat) ({ cls := "LakeLevels$Lake", name := "isWet", desc := "(LLakeLevels$Land;I)Z" } : Jvm.MethodName)) ∈ lw_all := lw_g (lw_at lw_m4 173 rfl) rfl
theorem q1028 : (Jvm.Cond.instanceMethod ({ cls := "LakeLevels$State", name := "copy", desc := "()LLakeLevels$State;" } : Jvm.MethodName)) ∈ lw_all := lw_g (lw_at lw_m4 207 rfl) rfl
theorem q1029 : (Jvm.Cond.selects "LakeLevels$State" ({ cls := "LakeLevels$State", name := "copy", desc := "()LLakeLevels$State;" } : Jvm.MethodName) ({ cls := "LakeLevels$State", name := "copy", desc := "()LLakeLevels$State;" } : Jvm.MethodName)) ∈ lw_all := lw_g (lw_at lw_m4 208 rfl) rfl
theorem q1030 : (Jvm.Cond.code ({ cls := "LakeLevels$State", name := "copy", desc := "()LLakeLevels$State;" } : Jvm.MethodName) prog_10_method_2_code (3 : Nat) (Option.some (Jvm.ClassFile.FieldType.object "LakeLevels$State"))) ∈ lw_all := lw_g (lw_at lw_m4 209 rfl) rfl
theorem q1031 : (Jvm.Cond.classLink "LakeLevels$State" (13 : Nat) "LakeLevels$State") ∈ lw_all := lw_g (lw_at lw_m4 210 rfl) rfl
theorem q1032 : (Jvm.Cond.methodLink "LakeLevels$State" (28 : Nat) ({ cls := "LakeLevels$Land", name := "copy", desc := "()LLakeLevels$Land;" } : Jvm.MethodName)) ∈ lw_all := lw_g (lw_at lw_m4 211 rfl) rfl
theorem q1039 : (Jvm.Cond.methodLink "LakeLevels$State" (34 : Nat) ({ cls := "LakeLevels$State", name := "<init>", desc := "(LLakeLevels$Land;)V" } : Jvm.MethodName)) ∈ lw_all := lw_g (lw_at lw_m4 218 rfl) rfl
theorem q1040 : (Jvm.Cond.methodLink "LakeLevels$State" (45 : Nat) ({ cls := "LakeLevels$Lake", name := "copy", desc := "()LLakeLevels$Lake;" } : Jvm.MethodName)) ∈ lw_all := lw_g (lw_at lw_m4 219 rfl) rfl
theorem q1049 : (Jvm.Cond.instanceMethod ({ cls := "LakeLevels$State", name := "rain", desc := "(I)V" } : Jvm.MethodName)) ∈ lw_all := lw_g (lw_at lw_m4 228 rfl) rfl
theorem q1050 : (Jvm.Cond.selects "LakeLevels$State" ({ cls := "LakeLevels$State", name := "rain", desc := "(I)V" } : Jvm.MethodName) ({ cls := "LakeLevels$State", name := "rain", desc := "(I)V" } : Jvm.MethodName)) ∈ lw_all := lw_g (lw_at lw_m4 229 rfl) rfl
theorem q1051 : (Jvm.Cond.code ({ cls := "LakeLevels$State", name := "rain", desc := "(I)V" } : Jvm.MethodName) prog_10_method_24_code (3 : Nat) (Option.none : Option Jvm.ClassFile.FieldType)) ∈ lw_all := lw_g (lw_at lw_m4 230 rfl) rfl
theorem q1052 : (Jvm.Cond.methodLink "LakeLevels$State" (124 : Nat) ({ cls := "LakeLevels$State", name := "pour", desc := "(II)V" } : Jvm.MethodName)) ∈ lw_all := lw_g (lw_at lw_m4 231 rfl) rfl
theorem q1053 : (Jvm.Cond.instanceMethod ({ cls := "LakeLevels$State", name := "pour", desc := "(II)V" } : Jvm.MethodName)) ∈ lw_all := lw_g (lw_at lw_m4 232 rfl) rfl
theorem q1054 : (Jvm.Cond.selects "LakeLevels$State" ({ cls := "LakeLevels$State", name := "pour", desc := "(II)V" } : Jvm.MethodName) ({ cls := "LakeLevels$State", name := "pour", desc := "(II)V" } : Jvm.MethodName)) ∈ lw_all := lw_g (lw_at lw_m4 233 rfl) rfl
theorem q1055 : (Jvm.Cond.code ({ cls := "LakeLevels$State", name := "pour", desc := "(II)V" } : Jvm.MethodName) prog_10_method_10_code (5 : Nat) (Option.none : Option Jvm.ClassFile.FieldType)) ∈ lw_all := lw_g (lw_at lw_m4 234 rfl) rfl
theorem q1056 : (Jvm.Cond.methodLink "LakeLevels$State" (139 : Nat) ({ cls := "LakeLevels$Lake", name := "add", desc := "(I)I" } : Jvm.MethodName)) ∈ lw_all := lw_g (lw_at lw_m4 235 rfl) rfl
theorem q1061 : (Jvm.Cond.methodLink "LakeLevels$State" (142 : Nat) ({ cls := "LakeLevels$State", name := "afterFull", desc := "(LLakeLevels$Lake;)LLakeLevels$Lake;" } : Jvm.MethodName)) ∈ lw_all := lw_g (lw_at lw_m5 0 rfl) rfl
theorem q1062 : (Jvm.Cond.privateMethod ({ cls := "LakeLevels$State", name := "afterFull", desc := "(LLakeLevels$Lake;)LLakeLevels$Lake;" } : Jvm.MethodName)) ∈ lw_tbl := lw_at lw_m5 1 rfl
theorem q1063 : (Jvm.Cond.instanceMethod ({ cls := "LakeLevels$State", name := "afterFull", desc := "(LLakeLevels$Lake;)LLakeLevels$Lake;" } : Jvm.MethodName)) ∈ lw_all := lw_g (lw_at lw_m5 2 rfl) rfl
theorem q1064 : (Jvm.Cond.code ({ cls := "LakeLevels$State", name := "afterFull", desc := "(LLakeLevels$Lake;)LLakeLevels$Lake;" } : Jvm.MethodName) prog_10_method_11_code (4 : Nat) (Option.some (Jvm.ClassFile.FieldType.object "LakeLevels$Lake"))) ∈ lw_all := lw_g (lw_at lw_m5 3 rfl) rfl
theorem q1065 : (Jvm.Cond.methodLink "LakeLevels$State" (149 : Nat) ({ cls := "LakeLevels$Lake", name := "isFull", desc := "()Z" } : Jvm.MethodName)) ∈ lw_all := lw_g (lw_at lw_m5 4 rfl) rfl
theorem q1069 : (Jvm.Cond.methodLink "LakeLevels$State" (155 : Nat) ({ cls := "LakeLevels$Lake", name := "joined", desc := "(LLakeLevels$Land;LLakeLevels$Lake;LLakeLevels$Lake;)LLakeLevels$Lake;" } : Jvm.MethodName)) ∈ lw_all := lw_g (lw_at lw_m5 8 rfl) rfl
theorem q1073 : (Jvm.Cond.methodLink "LakeLevels$State" (159 : Nat) ({ cls := "LakeLevels$State", name := "remove", desc := "(LLakeLevels$Lake;)V" } : Jvm.MethodName)) ∈ lw_all := lw_g (lw_at lw_m5 12 rfl) rfl
theorem q1074 : (Jvm.Cond.privateMethod ({ cls := "LakeLevels$State", name := "remove", desc := "(LLakeLevels$Lake;)V" } : Jvm.MethodName)) ∈ lw_tbl := lw_at lw_m5 13 rfl
theorem q1075 : (Jvm.Cond.instanceMethod ({ cls := "LakeLevels$State", name := "remove", desc := "(LLakeLevels$Lake;)V" } : Jvm.MethodName)) ∈ lw_all := lw_g (lw_at lw_m5 14 rfl) rfl
theorem q1076 : (Jvm.Cond.code ({ cls := "LakeLevels$State", name := "remove", desc := "(LLakeLevels$Lake;)V" } : Jvm.MethodName) prog_10_method_5_code (3 : Nat) (Option.none : Option Jvm.ClassFile.FieldType)) ∈ lw_all := lw_g (lw_at lw_m5 15 rfl) rfl
theorem q1077 : (Jvm.Cond.methodLink "LakeLevels$State" (100 : Nat) ({ cls := "java/util/LinkedList", name := "iterator", desc := "()Ljava/util/Iterator;" } : Jvm.MethodName)) ∈ lw_all := lw_g (lw_at lw_m5 16 rfl) rfl
theorem q1167 : (Jvm.Cond.interfaceEntry "LakeLevels$State" (104 : Nat)) ∈ lw_tbl := lw_at lw_m5 106 rfl
theorem q1168 : (Jvm.Cond.methodLink "LakeLevels$State" (104 : Nat) ({ cls := "java/util/Iterator", name := "hasNext", desc := "()Z" } : Jvm.MethodName)) ∈ lw_all := lw_g (lw_at lw_m5 107 rfl) rfl
theorem q1199 : (Jvm.Cond.interfaceEntry "LakeLevels$State" (110 : Nat)) ∈ lw_tbl := lw_at lw_m5 138 rfl
theorem q1200 : (Jvm.Cond.methodLink "LakeLevels$State" (110 : Nat) ({ cls := "java/util/Iterator", name := "next", desc := "()Ljava/lang/Object;" } : Jvm.MethodName)) ∈ lw_all := lw_g (lw_at lw_m5 139 rfl) rfl
theorem q1315 : (Jvm.Cond.interfaceEntry "LakeLevels$State" (114 : Nat)) ∈ lw_tbl := lw_at lw_m6 14 rfl
theorem q1316 : (Jvm.Cond.methodLink "LakeLevels$State" (114 : Nat) ({ cls := "java/util/Iterator", name := "remove", desc := "()V" } : Jvm.MethodName)) ∈ lw_all := lw_g (lw_at lw_m6 15 rfl) rfl
theorem q1496 : (Jvm.Cond.instanceMethod ({ cls := "LakeLevels$State", name := "count", desc := "(I)I" } : Jvm.MethodName)) ∈ lw_all := lw_g (lw_at lw_m6 195 rfl) rfl
theorem q1497 : (Jvm.Cond.selects "LakeLevels$State" ({ cls := "LakeLevels$State", name := "count", desc := "(I)I" } : Jvm.MethodName) ({ cls := "LakeLevels$State", name := "count", desc := "(I)I" } : Jvm.MethodName)) ∈ lw_all := lw_g (lw_at lw_m6 196 rfl) rfl
theorem q1498 : (Jvm.Cond.code ({ cls := "LakeLevels$State", name := "count", desc := "(I)I" } : Jvm.MethodName) prog_10_method_20_code (2 : Nat) (Option.some Jvm.ClassFile.FieldType.int)) ∈ lw_all := lw_g (lw_at lw_m6 197 rfl) rfl
theorem q1499 : (Jvm.Cond.methodLink "LakeLevels$State" (208 : Nat) ({ cls := "LakeLevels$State", name := "wetCells", desc := "()I" } : Jvm.MethodName)) ∈ lw_all := lw_g (lw_at lw_m6 198 rfl) rfl
theorem q1500 : (Jvm.Cond.instanceMethod ({ cls := "LakeLevels$State", name := "wetCells", desc := "()I" } : Jvm.MethodName)) ∈ lw_all := lw_g (lw_at lw_m6 199 rfl) rfl
theorem q1501 : (Jvm.Cond.selects "LakeLevels$State" ({ cls := "LakeLevels$State", name := "wetCells", desc := "()I" } : Jvm.MethodName) ({ cls := "LakeLevels$State", name := "wetCells", desc := "()I" } : Jvm.MethodName)) ∈ lw_all := lw_g (lw_at lw_m6 200 rfl) rfl
theorem q1502 : (Jvm.Cond.code ({ cls := "LakeLevels$State", name := "wetCells", desc := "()I" } : Jvm.MethodName) prog_10_method_16_code (4 : Nat) (Option.some Jvm.ClassFile.FieldType.int)) ∈ lw_all := lw_g (lw_at lw_m6 201 rfl) rfl
theorem q1503 : (Jvm.Cond.methodLink "LakeLevels$State" (187 : Nat) ({ cls := "LakeLevels$Lake", name := "wetCells", desc := "(LLakeLevels$Land;)I" } : Jvm.MethodName)) ∈ lw_all := lw_g (lw_at lw_m6 202 rfl) rfl
theorem q1507 : (Jvm.Cond.methodLink "LakeLevels$State" (210 : Nat) ({ cls := "LakeLevels$State", name := "seaCells", desc := "()I" } : Jvm.MethodName)) ∈ lw_all := lw_g (lw_at lw_m6 206 rfl) rfl
theorem q1508 : (Jvm.Cond.privateMethod ({ cls := "LakeLevels$State", name := "seaCells", desc := "()I" } : Jvm.MethodName)) ∈ lw_tbl := lw_at lw_m6 207 rfl
theorem q1509 : (Jvm.Cond.instanceMethod ({ cls := "LakeLevels$State", name := "seaCells", desc := "()I" } : Jvm.MethodName)) ∈ lw_all := lw_g (lw_at lw_m6 208 rfl) rfl
theorem q1510 : (Jvm.Cond.code ({ cls := "LakeLevels$State", name := "seaCells", desc := "()I" } : Jvm.MethodName) prog_10_method_19_code (3 : Nat) (Option.some Jvm.ClassFile.FieldType.int)) ∈ lw_all := lw_g (lw_at lw_m6 209 rfl) rfl
theorem q1511 : (Jvm.Cond.methodLink "LakeLevels$State" (213 : Nat) ({ cls := "LakeLevels$State", name := "fullLakes", desc := "()I" } : Jvm.MethodName)) ∈ lw_all := lw_g (lw_at lw_m6 210 rfl) rfl
theorem q1512 : (Jvm.Cond.privateMethod ({ cls := "LakeLevels$State", name := "fullLakes", desc := "()I" } : Jvm.MethodName)) ∈ lw_tbl := lw_at lw_m6 211 rfl
theorem q1513 : (Jvm.Cond.instanceMethod ({ cls := "LakeLevels$State", name := "fullLakes", desc := "()I" } : Jvm.MethodName)) ∈ lw_all := lw_g (lw_at lw_m6 212 rfl) rfl
theorem q1514 : (Jvm.Cond.code ({ cls := "LakeLevels$State", name := "fullLakes", desc := "()I" } : Jvm.MethodName) prog_10_method_18_code (4 : Nat) (Option.some Jvm.ClassFile.FieldType.int)) ∈ lw_all := lw_g (lw_at lw_m6 213 rfl) rfl
theorem q1516 : (Jvm.Cond.instanceMethod ({ cls := "LakeLevels$State", name := "cell", desc := "(II)I" } : Jvm.MethodName)) ∈ lw_all := lw_g (lw_at lw_m6 215 rfl) rfl
theorem q1517 : (Jvm.Cond.selects "LakeLevels$State" ({ cls := "LakeLevels$State", name := "cell", desc := "(II)I" } : Jvm.MethodName) ({ cls := "LakeLevels$State", name := "cell", desc := "(II)I" } : Jvm.MethodName)) ∈ lw_all := lw_g (lw_at lw_m6 216 rfl) rfl
theorem q1518 : (Jvm.Cond.code ({ cls := "LakeLevels$State", name := "cell", desc := "(II)I" } : Jvm.MethodName) prog_10_method_21_code (3 : Nat) (Option.some Jvm.ClassFile.FieldType.int)) ∈ lw_all := lw_g (lw_at lw_m6 217 rfl) rfl
theorem q1519 : (Jvm.Cond.methodLink "LakeLevels$State" (222 : Nat) ({ cls := "LakeLevels$State", name := "numberOf", desc := "(LLakeLevels$Lake;)I" } : Jvm.MethodName)) ∈ lw_all := lw_g (lw_at lw_m6 218 rfl) rfl
theorem q1520 : (Jvm.Cond.instanceMethod ({ cls := "LakeLevels$State", name := "numberOf", desc := "(LLakeLevels$Lake;)I" } : Jvm.MethodName)) ∈ lw_all := lw_g (lw_at lw_m6 219 rfl) rfl
theorem q1521 : (Jvm.Cond.selects "LakeLevels$State" ({ cls := "LakeLevels$State", name := "numberOf", desc := "(LLakeLevels$Lake;)I" } : Jvm.MethodName) ({ cls := "LakeLevels$State", name := "numberOf", desc := "(LLakeLevels$Lake;)I" } : Jvm.MethodName)) ∈ lw_all := lw_g (lw_at lw_m6 220 rfl) rfl
theorem q1522 : (Jvm.Cond.code ({ cls := "LakeLevels$State", name := "numberOf", desc := "(LLakeLevels$Lake;)I" } : Jvm.MethodName) prog_10_method_9_code (2 : Nat) (Option.some Jvm.ClassFile.FieldType.int)) ∈ lw_all := lw_g (lw_at lw_m6 221 rfl) rfl
theorem q1523 : (Jvm.Cond.methodLink "LakeLevels$State" (131 : Nat) ({ cls := "java/util/LinkedList", name := "indexOf", desc := "(Ljava/lang/Object;)I" } : Jvm.MethodName)) ∈ lw_all := lw_g (lw_at lw_m6 222 rfl) rfl
theorem q1539 : (Jvm.Cond.selects "LakeLevels$State" ({ cls := "java/lang/Object", name := "equals", desc := "(Ljava/lang/Object;)Z" } : Jvm.MethodName) ({ cls := "java/lang/Object", name := "equals", desc := "(Ljava/lang/Object;)Z" } : Jvm.MethodName)) ∈ lw_all := lw_g (lw_at lw_m6 238 rfl) rfl
theorem q1559 : (Jvm.Cond.methodLink "LakeLevels$State" (226 : Nat) ({ cls := "LakeLevels$State", name := "isWet", desc := "(I)Z" } : Jvm.MethodName)) ∈ lw_all := lw_g (lw_at lw_m7 18 rfl) rfl
theorem q1560 : (Jvm.Cond.methodLink "LakeLevels$State" (229 : Nat) ({ cls := "LakeLevels$Land", name := "isPit", desc := "(I)Z" } : Jvm.MethodName)) ∈ lw_all := lw_g (lw_at lw_m7 19 rfl) rfl
theorem q1568 : (Jvm.Cond.instanceMethod ({ cls := "LakeLevels$State", name := "lake", desc := "(LLakeLevels$Lake;I)I" } : Jvm.MethodName)) ∈ lw_all := lw_g (lw_at lw_m7 27 rfl) rfl
theorem q1569 : (Jvm.Cond.selects "LakeLevels$State" ({ cls := "LakeLevels$State", name := "lake", desc := "(LLakeLevels$Lake;I)I" } : Jvm.MethodName) ({ cls := "LakeLevels$State", name := "lake", desc := "(LLakeLevels$Lake;I)I" } : Jvm.MethodName)) ∈ lw_all := lw_g (lw_at lw_m7 28 rfl) rfl
theorem q1570 : (Jvm.Cond.code ({ cls := "LakeLevels$State", name := "lake", desc := "(LLakeLevels$Lake;I)I" } : Jvm.MethodName) prog_10_method_22_code (3 : Nat) (Option.some Jvm.ClassFile.FieldType.int)) ∈ lw_all := lw_g (lw_at lw_m7 29 rfl) rfl
theorem q1571 : (Jvm.Cond.methodLink "LakeLevels$State" (235 : Nat) ({ cls := "java/lang/Long", name := "bitCount", desc := "(J)I" } : Jvm.MethodName)) ∈ lw_all := lw_g (lw_at lw_m7 30 rfl) rfl
theorem q1577 : (Jvm.Cond.methodLink "LakeLevels$State" (240 : Nat) ({ cls := "LakeLevels$Land", name := "basinsIn", desc := "(J)I" } : Jvm.MethodName)) ∈ lw_all := lw_g (lw_at lw_m7 36 rfl) rfl
theorem q1582 : (Jvm.Cond.methodLink "LakeLevels$State" (161 : Nat) ({ cls := "LakeLevels$Lake", name := "lowestVolume", desc := "()I" } : Jvm.MethodName)) ∈ lw_all := lw_g (lw_at lw_m7 41 rfl) rfl
theorem q1587 : (Jvm.Cond.instanceMethod ({ cls := "LakeLevels$State", name := "balance", desc := "(I)J" } : Jvm.MethodName)) ∈ lw_all := lw_g (lw_at lw_m7 46 rfl) rfl
theorem q1588 : (Jvm.Cond.selects "LakeLevels$State" ({ cls := "LakeLevels$State", name := "balance", desc := "(I)J" } : Jvm.MethodName) ({ cls := "LakeLevels$State", name := "balance", desc := "(I)J" } : Jvm.MethodName)) ∈ lw_all := lw_g (lw_at lw_m7 47 rfl) rfl
theorem q1589 : (Jvm.Cond.code ({ cls := "LakeLevels$State", name := "balance", desc := "(I)J" } : Jvm.MethodName) prog_10_method_23_code (2 : Nat) (Option.some Jvm.ClassFile.FieldType.long)) ∈ lw_all := lw_g (lw_at lw_m7 48 rfl) rfl
theorem q1590 : (Jvm.Cond.methodLink "LakeLevels$State" (246 : Nat) ({ cls := "LakeLevels$State", name := "water", desc := "()J" } : Jvm.MethodName)) ∈ lw_all := lw_g (lw_at lw_m7 49 rfl) rfl
theorem q1591 : (Jvm.Cond.instanceMethod ({ cls := "LakeLevels$State", name := "water", desc := "()J" } : Jvm.MethodName)) ∈ lw_all := lw_g (lw_at lw_m7 50 rfl) rfl
theorem q1592 : (Jvm.Cond.selects "LakeLevels$State" ({ cls := "LakeLevels$State", name := "water", desc := "()J" } : Jvm.MethodName) ({ cls := "LakeLevels$State", name := "water", desc := "()J" } : Jvm.MethodName)) ∈ lw_all := lw_g (lw_at lw_m7 51 rfl) rfl
theorem q1593 : (Jvm.Cond.code ({ cls := "LakeLevels$State", name := "water", desc := "()J" } : Jvm.MethodName) prog_10_method_15_code (5 : Nat) (Option.some Jvm.ClassFile.FieldType.long)) ∈ lw_all := lw_g (lw_at lw_m7 52 rfl) rfl
theorem q1724 : (Jvm.Cond.instanceMethod ({ cls := "LakeLevels$State", name := "lowestPlaces", desc := "()[I" } : Jvm.MethodName)) ∈ lw_all := lw_g (lw_at lw_m7 183 rfl) rfl
theorem q1725 : (Jvm.Cond.selects "LakeLevels$State" ({ cls := "LakeLevels$State", name := "lowestPlaces", desc := "()[I" } : Jvm.MethodName) ({ cls := "LakeLevels$State", name := "lowestPlaces", desc := "()[I" } : Jvm.MethodName)) ∈ lw_all := lw_g (lw_at lw_m7 184 rfl) rfl
theorem q1726 : (Jvm.Cond.code ({ cls := "LakeLevels$State", name := "lowestPlaces", desc := "()[I" } : Jvm.MethodName) prog_10_method_7_code (5 : Nat) (Option.some (Jvm.ClassFile.FieldType.array Jvm.ClassFile.FieldType.int))) ∈ lw_all := lw_g (lw_at lw_m7 185 rfl) rfl
theorem q1727 : (Jvm.Cond.methodLink "LakeLevels$State" (128 : Nat) ({ cls := "LakeLevels$Land", name := "lowestPlace", desc := "(J)I" } : Jvm.MethodName)) ∈ lw_all := lw_g (lw_at lw_m7 186 rfl) rfl
theorem q1767 : (Jvm.Cond.instanceMethod ({ cls := "LakeLevels$State", name := "settle", desc := "(Ljava/util/List;[I)V" } : Jvm.MethodName)) ∈ lw_all := lw_g (lw_at lw_m7 226 rfl) rfl
theorem q1768 : (Jvm.Cond.selects "LakeLevels$State" ({ cls := "LakeLevels$State", name := "settle", desc := "(Ljava/util/List;[I)V" } : Jvm.MethodName) ({ cls := "LakeLevels$State", name := "settle", desc := "(Ljava/util/List;[I)V" } : Jvm.MethodName)) ∈ lw_all := lw_g (lw_at lw_m7 227 rfl) rfl
theorem q1769 : (Jvm.Cond.code ({ cls := "LakeLevels$State", name := "settle", desc := "(Ljava/util/List;[I)V" } : Jvm.MethodName) prog_10_method_6_code (6 : Nat) (Option.none : Option Jvm.ClassFile.FieldType)) ∈ lw_all := lw_g (lw_at lw_m7 228 rfl) rfl
theorem q1770 : (Jvm.Cond.methodLink "LakeLevels$State" (117 : Nat) ({ cls := "LakeLevels$State", name := "find", desc := "()V" } : Jvm.MethodName)) ∈ lw_all := lw_g (lw_at lw_m7 229 rfl) rfl
theorem q1771 : (Jvm.Cond.interfaceEntry "LakeLevels$State" (118 : Nat)) ∈ lw_tbl := lw_at lw_m7 230 rfl
theorem q1772 : (Jvm.Cond.methodLink "LakeLevels$State" (118 : Nat) ({ cls := "java/util/List", name := "iterator", desc := "()Ljava/util/Iterator;" } : Jvm.MethodName)) ∈ lw_all := lw_g (lw_at lw_m7 231 rfl) rfl
theorem q1925 : (Jvm.Cond.instanceMethod ({ cls := "LakeLevels$State", name := "evaporate", desc := "(I)J" } : Jvm.MethodName)) ∈ lw_all := lw_g (lw_at lw_m8 144 rfl) rfl
theorem q1926 : (Jvm.Cond.selects "LakeLevels$State" ({ cls := "LakeLevels$State", name := "evaporate", desc := "(I)J" } : Jvm.MethodName) ({ cls := "LakeLevels$State", name := "evaporate", desc := "(I)J" } : Jvm.MethodName)) ∈ lw_all := lw_g (lw_at lw_m8 145 rfl) rfl
theorem q1927 : (Jvm.Cond.code ({ cls := "LakeLevels$State", name := "evaporate", desc := "(I)J" } : Jvm.MethodName) prog_10_method_14_code (5 : Nat) (Option.some Jvm.ClassFile.FieldType.long)) ∈ lw_all := lw_g (lw_at lw_m8 146 rfl) rfl
theorem q1928 : (Jvm.Cond.methodLink "LakeLevels$State" (191 : Nat) ({ cls := "LakeLevels$State", name := "evaporateOnce", desc := "()V" } : Jvm.MethodName)) ∈ lw_all := lw_g (lw_at lw_m8 147 rfl) rfl
theorem q1929 : (Jvm.Cond.privateMethod ({ cls := "LakeLevels$State", name := "evaporateOnce", desc := "()V" } : Jvm.MethodName)) ∈ lw_tbl := lw_at lw_m8 148 rfl
theorem q1930 : (Jvm.Cond.instanceMethod ({ cls := "LakeLevels$State", name := "evaporateOnce", desc := "()V" } : Jvm.MethodName)) ∈ lw_all := lw_g (lw_at lw_m8 149 rfl) rfl
theorem q1931 : (Jvm.Cond.code ({ cls := "LakeLevels$State", name := "evaporateOnce", desc := "()V" } : Jvm.MethodName) prog_10_method_13_code (5 : Nat) (Option.none : Option Jvm.ClassFile.FieldType)) ∈ lw_all := lw_g (lw_at lw_m8 150 rfl) rfl
theorem q1932 : (Jvm.Cond.classLink "LakeLevels$State" (181 : Nat) "java/util/ArrayList") ∈ lw_all := lw_g (lw_at lw_m8 151 rfl) rfl
theorem q1933 : (Jvm.Cond.methodLink "LakeLevels$State" (183 : Nat) ({ cls := "java/util/ArrayList", name := "<init>", desc := "(Ljava/util/Collection;)V" } : Jvm.MethodName)) ∈ lw_all := lw_g (lw_at lw_m8 152 rfl) rfl
theorem q1934 : (Jvm.Cond.methodLink "LakeLevels$State" (186 : Nat) ({ cls := "java/util/ArrayList", name := "iterator", desc := "()Ljava/util/Iterator;" } : Jvm.MethodName)) ∈ lw_all := lw_g (lw_at lw_m8 153 rfl) rfl
theorem q1935 : (Jvm.Cond.methodLink "LakeLevels$State" (171 : Nat) ({ cls := "java/lang/Math", name := "min", desc := "(II)I" } : Jvm.MethodName)) ∈ lw_all := lw_g (lw_at lw_m8 154 rfl) rfl
theorem q1936 : (Jvm.Cond.methodLink "LakeLevels$State" (177 : Nat) ({ cls := "LakeLevels$State", name := "take", desc := "(LLakeLevels$Lake;I)V" } : Jvm.MethodName)) ∈ lw_all := lw_g (lw_at lw_m8 155 rfl) rfl
theorem q1937 : (Jvm.Cond.instanceMethod ({ cls := "LakeLevels$State", name := "take", desc := "(LLakeLevels$Lake;I)V" } : Jvm.MethodName)) ∈ lw_all := lw_g (lw_at lw_m8 156 rfl) rfl
theorem q1938 : (Jvm.Cond.selects "LakeLevels$State" ({ cls := "LakeLevels$State", name := "take", desc := "(LLakeLevels$Lake;I)V" } : Jvm.MethodName) ({ cls := "LakeLevels$State", name := "take", desc := "(LLakeLevels$Lake;I)V" } : Jvm.MethodName)) ∈ lw_all := lw_g (lw_at lw_m8 157 rfl) rfl
theorem q1939 : (Jvm.Cond.code ({ cls := "LakeLevels$State", name := "take", desc := "(LLakeLevels$Lake;I)V" } : Jvm.MethodName) prog_10_method_12_code (5 : Nat) (Option.none : Option Jvm.ClassFile.FieldType)) ∈ lw_all := lw_g (lw_at lw_m8 158 rfl) rfl
theorem q2526 : (Jvm.Cond.castable "LakeLevels$State" "java/lang/Object") ∈ lw_tbl := lw_at lw_m11 25 rfl
theorem in_X3 : ∀ w ∈ wsX30, w ∈ lw_all := lw_in wsX30 [272, 274, 276, 278, 280, 282] (by decide +kernel) (by decide +kernel)
