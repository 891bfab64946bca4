/-! LakeLevels$Land -/
set_option maxRecDepth 100000
def RX2 : String := "LakeLevels$Land"
def TX2 : u_T := fun k => match k with
  | 0 => ("LakeLevels$Land", "columns", "I", true)
  | 1 => ("LakeLevels$Land", "rows", "I", true)
  | 2 => ("LakeLevels$Land", "heights", "[I", true)
  | 3 => ("LakeLevels$Land", "drains", "J", false)
  | 4 => ("LakeLevels$Land", "gatesRight", "[I", true)
  | 5 => ("LakeLevels$Land", "gatesDown", "[I", true)
  | 6 => ("LakeLevels$Land", "plains", "[J", true)
  | 7 => ("LakeLevels$Land", "nexts", "[I", true)
  | 8 => ("LakeLevels$Land", "basins", "[I", true)
  | _ => ("LakeLevels$Land", "basinCount", "I", false)
def tyX2 : Nat → FieldType := fun k => match k with
  | 0 => .int
  | 1 => .int
  | 2 => .array .int
  | 3 => .long
  | 4 => .array .int
  | 5 => .array .int
  | 6 => .array .long
  | 7 => .array .int
  | 8 => .array .int
  | _ => .int
abbrev wsX20 : List Cond := u_ws RX2 TX2 10
theorem nmX2 : ∀ a, a < 10 → ∀ b, b < 10 → a ≠ b → (TX2 a).2.1 ≠ (TX2 b).2.1 := by decide +kernel
theorem tyX2_ok : ∀ k, k < 10 → parseFieldDescriptor (TX2 k).2.2.1 = some (tyX2 k) := by decide +kernel
abbrev cX2_init : ByteArray := prog_8_method_1_code
def yX2_init : MethodName := ⟨RX2, "<init>", "(II)V"⟩
def dkwX2_init_3 : List UInt8 := [180, 0, 18, 2, 184, 0, 38, 177]
abbrev dktX2_init_3 : List UInt8 := dkwX2_init_3 ++ []
def dkwX2_init_2 : List UInt8 := [188, 10, 181, 0, 28, 42, 27, 181, 0, 31, 42, 28, 181, 0, 35, 42, 180, 0, 15, 2, 184, 0, 38, 42]
abbrev dktX2_init_2 : List UInt8 := dkwX2_init_2 ++ dktX2_init_3
def dkwX2_init_1 : List UInt8 := [188, 10, 181, 0, 18, 42, 16, 36, 188, 11, 181, 0, 21, 42, 16, 36, 188, 10, 181, 0, 25, 42, 16, 36]
abbrev dktX2_init_1 : List UInt8 := dkwX2_init_1 ++ dktX2_init_2
def dkwX2_init_0 : List UInt8 := [42, 183, 0, 3, 42, 16, 36, 188, 10, 181, 0, 9, 42, 16, 36, 188, 10, 181, 0, 15, 42, 16, 36]
abbrev dktX2_init_0 : List UInt8 := dkwX2_init_0 ++ dktX2_init_1
theorem dksX2_init_0 : cX2_init.data.toList.drop 0 = dktX2_init_0 := by decide +kernel
theorem dksX2_init_1 : cX2_init.data.toList.drop 23 = dktX2_init_1 := dk_seg dksX2_init_0 23 rfl rfl
theorem dksX2_init_2 : cX2_init.data.toList.drop 47 = dktX2_init_2 := dk_seg dksX2_init_1 24 rfl rfl
theorem dksX2_init_3 : cX2_init.data.toList.drop 71 = dktX2_init_3 := dk_seg dksX2_init_2 24 rfl rfl
theorem dX2_init_0 : decode cX2_init 0 = .ok (.aload_n 0, 1) := dk_42 (dk_at dksX2_init_0 0 rfl rfl)
theorem dX2_init_1 : decode cX2_init 1 = .ok (.invokespecial 3, 3) := dk_183 0 3 (dk_at dksX2_init_0 1 rfl rfl)
theorem dX2_init_4 : decode cX2_init 4 = .ok (.aload_n 0, 1) := dk_42 (dk_at dksX2_init_0 4 rfl rfl)
theorem dX2_init_5 : decode cX2_init 5 = .ok (.bipush 36, 2) := dk_16 36 (dk_at dksX2_init_0 5 rfl rfl)
theorem dX2_init_7 : decode cX2_init 7 = .ok (.newarray .int, 2) := dk_188_10 (dk_at dksX2_init_0 7 rfl rfl)
theorem dX2_init_9 : decode cX2_init 9 = .ok (.putfield 9, 3) := dk_181 0 9 (dk_at dksX2_init_0 9 rfl rfl)
theorem dX2_init_12 : decode cX2_init 12 = .ok (.aload_n 0, 1) := dk_42 (dk_at dksX2_init_0 12 rfl rfl)
theorem dX2_init_13 : decode cX2_init 13 = .ok (.bipush 36, 2) := dk_16 36 (dk_at dksX2_init_0 13 rfl rfl)
theorem dX2_init_15 : decode cX2_init 15 = .ok (.newarray .int, 2) := dk_188_10 (dk_at dksX2_init_0 15 rfl rfl)
theorem dX2_init_17 : decode cX2_init 17 = .ok (.putfield 15, 3) := dk_181 0 15 (dk_at dksX2_init_0 17 rfl rfl)
theorem dX2_init_20 : decode cX2_init 20 = .ok (.aload_n 0, 1) := dk_42 (dk_at dksX2_init_0 20 rfl rfl)
theorem dX2_init_21 : decode cX2_init 21 = .ok (.bipush 36, 2) := dk_16 36 (dk_at dksX2_init_0 21 rfl rfl)
theorem dX2_init_23 : decode cX2_init 23 = .ok (.newarray .int, 2) := dk_188_10 (dk_at dksX2_init_1 0 rfl rfl)
theorem dX2_init_25 : decode cX2_init 25 = .ok (.putfield 18, 3) := dk_181 0 18 (dk_at dksX2_init_1 2 rfl rfl)
theorem dX2_init_28 : decode cX2_init 28 = .ok (.aload_n 0, 1) := dk_42 (dk_at dksX2_init_1 5 rfl rfl)
theorem dX2_init_29 : decode cX2_init 29 = .ok (.bipush 36, 2) := dk_16 36 (dk_at dksX2_init_1 6 rfl rfl)
theorem dX2_init_31 : decode cX2_init 31 = .ok (.newarray .long, 2) := dk_188_11 (dk_at dksX2_init_1 8 rfl rfl)
theorem dX2_init_33 : decode cX2_init 33 = .ok (.putfield 21, 3) := dk_181 0 21 (dk_at dksX2_init_1 10 rfl rfl)
theorem dX2_init_36 : decode cX2_init 36 = .ok (.aload_n 0, 1) := dk_42 (dk_at dksX2_init_1 13 rfl rfl)
theorem dX2_init_37 : decode cX2_init 37 = .ok (.bipush 36, 2) := dk_16 36 (dk_at dksX2_init_1 14 rfl rfl)
theorem dX2_init_39 : decode cX2_init 39 = .ok (.newarray .int, 2) := dk_188_10 (dk_at dksX2_init_1 16 rfl rfl)
theorem dX2_init_41 : decode cX2_init 41 = .ok (.putfield 25, 3) := dk_181 0 25 (dk_at dksX2_init_1 18 rfl rfl)
theorem dX2_init_44 : decode cX2_init 44 = .ok (.aload_n 0, 1) := dk_42 (dk_at dksX2_init_1 21 rfl rfl)
theorem dX2_init_45 : decode cX2_init 45 = .ok (.bipush 36, 2) := dk_16 36 (dk_at dksX2_init_1 22 rfl rfl)
theorem dX2_init_47 : decode cX2_init 47 = .ok (.newarray .int, 2) := dk_188_10 (dk_at dksX2_init_2 0 rfl rfl)
theorem dX2_init_49 : decode cX2_init 49 = .ok (.putfield 28, 3) := dk_181 0 28 (dk_at dksX2_init_2 2 rfl rfl)
theorem dX2_init_52 : decode cX2_init 52 = .ok (.aload_n 0, 1) := dk_42 (dk_at dksX2_init_2 5 rfl rfl)
theorem dX2_init_53 : decode cX2_init 53 = .ok (.iload_n 1, 1) := dk_27 (dk_at dksX2_init_2 6 rfl rfl)
theorem dX2_init_54 : decode cX2_init 54 = .ok (.putfield 31, 3) := dk_181 0 31 (dk_at dksX2_init_2 7 rfl rfl)
theorem dX2_init_57 : decode cX2_init 57 = .ok (.aload_n 0, 1) := dk_42 (dk_at dksX2_init_2 10 rfl rfl)
theorem dX2_init_58 : decode cX2_init 58 = .ok (.iload_n 2, 1) := dk_28 (dk_at dksX2_init_2 11 rfl rfl)
theorem dX2_init_59 : decode cX2_init 59 = .ok (.putfield 35, 3) := dk_181 0 35 (dk_at dksX2_init_2 12 rfl rfl)
theorem dX2_init_62 : decode cX2_init 62 = .ok (.aload_n 0, 1) := dk_42 (dk_at dksX2_init_2 15 rfl rfl)
theorem dX2_init_63 : decode cX2_init 63 = .ok (.getfield 15, 3) := dk_180 0 15 (dk_at dksX2_init_2 16 rfl rfl)
theorem dX2_init_66 : decode cX2_init 66 = .ok (.iconst (-1), 1) := dk_2 (dk_at dksX2_init_2 19 rfl rfl)
theorem dX2_init_67 : decode cX2_init 67 = .ok (.invokestatic 38, 3) := dk_184 0 38 (dk_at dksX2_init_2 20 rfl rfl)
theorem dX2_init_70 : decode cX2_init 70 = .ok (.aload_n 0, 1) := dk_42 (dk_at dksX2_init_2 23 rfl rfl)
theorem dX2_init_71 : decode cX2_init 71 = .ok (.getfield 18, 3) := dk_180 0 18 (dk_at dksX2_init_3 0 rfl rfl)
theorem dX2_init_74 : decode cX2_init 74 = .ok (.iconst (-1), 1) := dk_2 (dk_at dksX2_init_3 3 rfl rfl)
theorem dX2_init_75 : decode cX2_init 75 = .ok (.invokestatic 38, 3) := dk_184 0 38 (dk_at dksX2_init_3 4 rfl rfl)
theorem dX2_init_78 : decode cX2_init 78 = .ok (.return_, 1) := dk_177 (dk_at dksX2_init_3 7 rfl rfl)
abbrev cX2_find : ByteArray := prog_8_method_13_code
def yX2_find : MethodName := ⟨RX2, "find", "()V"⟩
def dkwX2_find_9 : List UInt8 := [167, 0, 4, 2, 79, 132, 1, 1, 167, 255, 207, 177]
abbrev dktX2_find_9 : List UInt8 := dkwX2_find_9 ++ []
def dkwX2_find_8 : List UInt8 := [42, 28, 182, 0, 136, 153, 0, 20, 42, 180, 0, 28, 42, 180, 0, 21, 28, 47, 184, 0, 140, 46]
abbrev dktX2_find_8 : List UInt8 := dkwX2_find_8 ++ dktX2_find_9
def dkwX2_find_7 : List UInt8 := [167, 255, 197, 3, 60, 27, 42, 182, 0, 112, 162, 0, 47, 42, 27, 182, 0, 143, 61, 42, 180, 0, 28, 27]
abbrev dktX2_find_7 : List UInt8 := dkwX2_find_7 ++ dktX2_find_8
def dkwX2_find_6 : List UInt8 := [180, 0, 28, 27, 42, 180, 0, 57, 79, 42, 89, 180, 0, 57, 4, 96, 181, 0, 57, 132, 1, 1]
abbrev dktX2_find_6 : List UInt8 := dkwX2_find_6 ++ dktX2_find_7
def dkwX2_find_5 : List UInt8 := [79, 42, 27, 182, 0, 136, 153, 0, 36, 42, 180, 0, 21, 27, 47, 184, 0, 140, 27, 160, 0, 23, 42]
abbrev dktX2_find_5 : List UInt8 := dkwX2_find_5 ++ dktX2_find_6
def dkwX2_find_4 : List UInt8 := [167, 255, 164, 42, 3, 181, 0, 57, 3, 60, 27, 42, 182, 0, 112, 162, 0, 57, 42, 180, 0, 28, 27, 2]
abbrev dktX2_find_4 : List UInt8 := dkwX2_find_4 ++ dktX2_find_5
def dkwX2_find_3 : List UInt8 := [127, 9, 148, 153, 0, 7, 2, 167, 0, 13, 42, 42, 180, 0, 21, 27, 47, 182, 0, 132, 79, 132, 1, 1]
abbrev dktX2_find_3 : List UInt8 := dkwX2_find_3 ++ dktX2_find_4
def dkwX2_find_2 : List UInt8 := [167, 0, 8, 42, 27, 182, 0, 129, 80, 42, 180, 0, 25, 27, 42, 180, 0, 21, 27, 47, 42, 180, 0, 53]
abbrev dktX2_find_2 : List UInt8 := dkwX2_find_2 ++ dktX2_find_3
def dkwX2_find_1 : List UInt8 := [153, 0, 7, 4, 167, 0, 4, 3, 61, 42, 180, 0, 21, 27, 28, 153, 0, 11, 42, 27, 182, 0, 125]
abbrev dktX2_find_1 : List UInt8 := dkwX2_find_1 ++ dktX2_find_2
def dkwX2_find_0 : List UInt8 := [3, 60, 27, 42, 182, 0, 112, 162, 0, 90, 27, 158, 0, 19, 42, 27, 182, 0, 125, 27, 184, 0, 115]
abbrev dktX2_find_0 : List UInt8 := dkwX2_find_0 ++ dktX2_find_1
theorem dksX2_find_0 : cX2_find.data.toList.drop 0 = dktX2_find_0 := by decide +kernel
theorem dksX2_find_1 : cX2_find.data.toList.drop 23 = dktX2_find_1 := dk_seg dksX2_find_0 23 rfl rfl
theorem dksX2_find_2 : cX2_find.data.toList.drop 46 = dktX2_find_2 := dk_seg dksX2_find_1 23 rfl rfl
theorem dksX2_find_3 : cX2_find.data.toList.drop 70 = dktX2_find_3 := dk_seg dksX2_find_2 24 rfl rfl
theorem dksX2_find_4 : cX2_find.data.toList.drop 94 = dktX2_find_4 := dk_seg dksX2_find_3 24 rfl rfl
theorem dksX2_find_5 : cX2_find.data.toList.drop 118 = dktX2_find_5 := dk_seg dksX2_find_4 24 rfl rfl
theorem dksX2_find_6 : cX2_find.data.toList.drop 141 = dktX2_find_6 := dk_seg dksX2_find_5 23 rfl rfl
theorem dksX2_find_7 : cX2_find.data.toList.drop 163 = dktX2_find_7 := dk_seg dksX2_find_6 22 rfl rfl
theorem dksX2_find_8 : cX2_find.data.toList.drop 187 = dktX2_find_8 := dk_seg dksX2_find_7 24 rfl rfl
theorem dksX2_find_9 : cX2_find.data.toList.drop 209 = dktX2_find_9 := dk_seg dksX2_find_8 22 rfl rfl
theorem dX2_find_0 : decode cX2_find 0 = .ok (.iconst 0, 1) := dk_3 (dk_at dksX2_find_0 0 rfl rfl)
theorem dX2_find_1 : decode cX2_find 1 = .ok (.istore_n 1, 1) := dk_60 (dk_at dksX2_find_0 1 rfl rfl)
theorem dX2_find_2 : decode cX2_find 2 = .ok (.iload_n 1, 1) := dk_27 (dk_at dksX2_find_0 2 rfl rfl)
theorem dX2_find_3 : decode cX2_find 3 = .ok (.aload_n 0, 1) := dk_42 (dk_at dksX2_find_0 3 rfl rfl)
theorem dX2_find_4 : decode cX2_find 4 = .ok (.invokevirtual 112, 3) := dk_182 0 112 (dk_at dksX2_find_0 4 rfl rfl)
theorem dX2_find_7 : decode cX2_find 7 = .ok (.if_icmp .ge 90, 3) := dk_162 0 90 (dk_at dksX2_find_0 7 rfl rfl)
theorem dX2_find_10 : decode cX2_find 10 = .ok (.iload_n 1, 1) := dk_27 (dk_at dksX2_find_0 10 rfl rfl)
theorem dX2_find_11 : decode cX2_find 11 = .ok (.ifCond .le 19, 3) := dk_158 0 19 (dk_at dksX2_find_0 11 rfl rfl)
theorem dX2_find_14 : decode cX2_find 14 = .ok (.aload_n 0, 1) := dk_42 (dk_at dksX2_find_0 14 rfl rfl)
theorem dX2_find_15 : decode cX2_find 15 = .ok (.iload_n 1, 1) := dk_27 (dk_at dksX2_find_0 15 rfl rfl)
theorem dX2_find_16 : decode cX2_find 16 = .ok (.invokevirtual 125, 3) := dk_182 0 125 (dk_at dksX2_find_0 16 rfl rfl)
theorem dX2_find_19 : decode cX2_find 19 = .ok (.iload_n 1, 1) := dk_27 (dk_at dksX2_find_0 19 rfl rfl)
theorem dX2_find_20 : decode cX2_find 20 = .ok (.invokestatic 115, 3) := dk_184 0 115 (dk_at dksX2_find_0 20 rfl rfl)
theorem dX2_find_23 : decode cX2_find 23 = .ok (.ifCond .eq 7, 3) := dk_153 0 7 (dk_at dksX2_find_1 0 rfl rfl)
theorem dX2_find_26 : decode cX2_find 26 = .ok (.iconst 1, 1) := dk_4 (dk_at dksX2_find_1 3 rfl rfl)
theorem dX2_find_27 : decode cX2_find 27 = .ok (.goto 4, 3) := dk_167 0 4 (dk_at dksX2_find_1 4 rfl rfl)
theorem dX2_find_30 : decode cX2_find 30 = .ok (.iconst 0, 1) := dk_3 (dk_at dksX2_find_1 7 rfl rfl)
theorem dX2_find_31 : decode cX2_find 31 = .ok (.istore_n 2, 1) := dk_61 (dk_at dksX2_find_1 8 rfl rfl)
theorem dX2_find_32 : decode cX2_find 32 = .ok (.aload_n 0, 1) := dk_42 (dk_at dksX2_find_1 9 rfl rfl)
theorem dX2_find_33 : decode cX2_find 33 = .ok (.getfield 21, 3) := dk_180 0 21 (dk_at dksX2_find_1 10 rfl rfl)
theorem dX2_find_36 : decode cX2_find 36 = .ok (.iload_n 1, 1) := dk_27 (dk_at dksX2_find_1 13 rfl rfl)
theorem dX2_find_37 : decode cX2_find 37 = .ok (.iload_n 2, 1) := dk_28 (dk_at dksX2_find_1 14 rfl rfl)
theorem dX2_find_38 : decode cX2_find 38 = .ok (.ifCond .eq 11, 3) := dk_153 0 11 (dk_at dksX2_find_1 15 rfl rfl)
theorem dX2_find_41 : decode cX2_find 41 = .ok (.aload_n 0, 1) := dk_42 (dk_at dksX2_find_1 18 rfl rfl)
theorem dX2_find_42 : decode cX2_find 42 = .ok (.iload_n 1, 1) := dk_27 (dk_at dksX2_find_1 19 rfl rfl)
theorem dX2_find_43 : decode cX2_find 43 = .ok (.invokevirtual 125, 3) := dk_182 0 125 (dk_at dksX2_find_1 20 rfl rfl)
theorem dX2_find_46 : decode cX2_find 46 = .ok (.goto 8, 3) := dk_167 0 8 (dk_at dksX2_find_2 0 rfl rfl)
theorem dX2_find_49 : decode cX2_find 49 = .ok (.aload_n 0, 1) := dk_42 (dk_at dksX2_find_2 3 rfl rfl)
theorem dX2_find_50 : decode cX2_find 50 = .ok (.iload_n 1, 1) := dk_27 (dk_at dksX2_find_2 4 rfl rfl)
theorem dX2_find_51 : decode cX2_find 51 = .ok (.invokevirtual 129, 3) := dk_182 0 129 (dk_at dksX2_find_2 5 rfl rfl)
theorem dX2_find_54 : decode cX2_find 54 = .ok (.lastore, 1) := dk_80 (dk_at dksX2_find_2 8 rfl rfl)
theorem dX2_find_55 : decode cX2_find 55 = .ok (.aload_n 0, 1) := dk_42 (dk_at dksX2_find_2 9 rfl rfl)
theorem dX2_find_56 : decode cX2_find 56 = .ok (.getfield 25, 3) := dk_180 0 25 (dk_at dksX2_find_2 10 rfl rfl)
theorem dX2_find_59 : decode cX2_find 59 = .ok (.iload_n 1, 1) := dk_27 (dk_at dksX2_find_2 13 rfl rfl)
theorem dX2_find_60 : decode cX2_find 60 = .ok (.aload_n 0, 1) := dk_42 (dk_at dksX2_find_2 14 rfl rfl)
theorem dX2_find_61 : decode cX2_find 61 = .ok (.getfield 21, 3) := dk_180 0 21 (dk_at dksX2_find_2 15 rfl rfl)
theorem dX2_find_64 : decode cX2_find 64 = .ok (.iload_n 1, 1) := dk_27 (dk_at dksX2_find_2 18 rfl rfl)
theorem dX2_find_65 : decode cX2_find 65 = .ok (.laload, 1) := dk_47 (dk_at dksX2_find_2 19 rfl rfl)
theorem dX2_find_66 : decode cX2_find 66 = .ok (.aload_n 0, 1) := dk_42 (dk_at dksX2_find_2 20 rfl rfl)
theorem dX2_find_67 : decode cX2_find 67 = .ok (.getfield 53, 3) := dk_180 0 53 (dk_at dksX2_find_2 21 rfl rfl)
theorem dX2_find_70 : decode cX2_find 70 = .ok (.land, 1) := dk_127 (dk_at dksX2_find_3 0 rfl rfl)
theorem dX2_find_71 : decode cX2_find 71 = .ok (.lconst 0, 1) := dk_9 (dk_at dksX2_find_3 1 rfl rfl)
theorem dX2_find_72 : decode cX2_find 72 = .ok (.lcmp, 1) := dk_148 (dk_at dksX2_find_3 2 rfl rfl)
theorem dX2_find_73 : decode cX2_find 73 = .ok (.ifCond .eq 7, 3) := dk_153 0 7 (dk_at dksX2_find_3 3 rfl rfl)
theorem dX2_find_76 : decode cX2_find 76 = .ok (.iconst (-1), 1) := dk_2 (dk_at dksX2_find_3 6 rfl rfl)
theorem dX2_find_77 : decode cX2_find 77 = .ok (.goto 13, 3) := dk_167 0 13 (dk_at dksX2_find_3 7 rfl rfl)
theorem dX2_find_80 : decode cX2_find 80 = .ok (.aload_n 0, 1) := dk_42 (dk_at dksX2_find_3 10 rfl rfl)
theorem dX2_find_81 : decode cX2_find 81 = .ok (.aload_n 0, 1) := dk_42 (dk_at dksX2_find_3 11 rfl rfl)
theorem dX2_find_82 : decode cX2_find 82 = .ok (.getfield 21, 3) := dk_180 0 21 (dk_at dksX2_find_3 12 rfl rfl)
theorem dX2_find_85 : decode cX2_find 85 = .ok (.iload_n 1, 1) := dk_27 (dk_at dksX2_find_3 15 rfl rfl)
theorem dX2_find_86 : decode cX2_find 86 = .ok (.laload, 1) := dk_47 (dk_at dksX2_find_3 16 rfl rfl)
theorem dX2_find_87 : decode cX2_find 87 = .ok (.invokevirtual 132, 3) := dk_182 0 132 (dk_at dksX2_find_3 17 rfl rfl)
theorem dX2_find_90 : decode cX2_find 90 = .ok (.iastore, 1) := dk_79 (dk_at dksX2_find_3 20 rfl rfl)
theorem dX2_find_91 : decode cX2_find 91 = .ok (.iinc 1 1, 3) := dk_132 1 1 (dk_at dksX2_find_3 21 rfl rfl)
theorem dX2_find_94 : decode cX2_find 94 = .ok (.goto (-92), 3) := dk_167 255 164 (dk_at dksX2_find_4 0 rfl rfl)
theorem dX2_find_97 : decode cX2_find 97 = .ok (.aload_n 0, 1) := dk_42 (dk_at dksX2_find_4 3 rfl rfl)
theorem dX2_find_98 : decode cX2_find 98 = .ok (.iconst 0, 1) := dk_3 (dk_at dksX2_find_4 4 rfl rfl)
theorem dX2_find_99 : decode cX2_find 99 = .ok (.putfield 57, 3) := dk_181 0 57 (dk_at dksX2_find_4 5 rfl rfl)
theorem dX2_find_102 : decode cX2_find 102 = .ok (.iconst 0, 1) := dk_3 (dk_at dksX2_find_4 8 rfl rfl)
theorem dX2_find_103 : decode cX2_find 103 = .ok (.istore_n 1, 1) := dk_60 (dk_at dksX2_find_4 9 rfl rfl)
theorem dX2_find_104 : decode cX2_find 104 = .ok (.iload_n 1, 1) := dk_27 (dk_at dksX2_find_4 10 rfl rfl)
theorem dX2_find_105 : decode cX2_find 105 = .ok (.aload_n 0, 1) := dk_42 (dk_at dksX2_find_4 11 rfl rfl)
theorem dX2_find_106 : decode cX2_find 106 = .ok (.invokevirtual 112, 3) := dk_182 0 112 (dk_at dksX2_find_4 12 rfl rfl)
theorem dX2_find_109 : decode cX2_find 109 = .ok (.if_icmp .ge 57, 3) := dk_162 0 57 (dk_at dksX2_find_4 15 rfl rfl)
theorem dX2_find_112 : decode cX2_find 112 = .ok (.aload_n 0, 1) := dk_42 (dk_at dksX2_find_4 18 rfl rfl)
theorem dX2_find_113 : decode cX2_find 113 = .ok (.getfield 28, 3) := dk_180 0 28 (dk_at dksX2_find_4 19 rfl rfl)
theorem dX2_find_116 : decode cX2_find 116 = .ok (.iload_n 1, 1) := dk_27 (dk_at dksX2_find_4 22 rfl rfl)
theorem dX2_find_117 : decode cX2_find 117 = .ok (.iconst (-1), 1) := dk_2 (dk_at dksX2_find_4 23 rfl rfl)
theorem dX2_find_118 : decode cX2_find 118 = .ok (.iastore, 1) := dk_79 (dk_at dksX2_find_5 0 rfl rfl)
theorem dX2_find_119 : decode cX2_find 119 = .ok (.aload_n 0, 1) := dk_42 (dk_at dksX2_find_5 1 rfl rfl)
theorem dX2_find_120 : decode cX2_find 120 = .ok (.iload_n 1, 1) := dk_27 (dk_at dksX2_find_5 2 rfl rfl)
theorem dX2_find_121 : decode cX2_find 121 = .ok (.invokevirtual 136, 3) := dk_182 0 136 (dk_at dksX2_find_5 3 rfl rfl)
theorem dX2_find_124 : decode cX2_find 124 = .ok (.ifCond .eq 36, 3) := dk_153 0 36 (dk_at dksX2_find_5 6 rfl rfl)
theorem dX2_find_127 : decode cX2_find 127 = .ok (.aload_n 0, 1) := dk_42 (dk_at dksX2_find_5 9 rfl rfl)
theorem dX2_find_128 : decode cX2_find 128 = .ok (.getfield 21, 3) := dk_180 0 21 (dk_at dksX2_find_5 10 rfl rfl)
theorem dX2_find_131 : decode cX2_find 131 = .ok (.iload_n 1, 1) := dk_27 (dk_at dksX2_find_5 13 rfl rfl)
theorem dX2_find_132 : decode cX2_find 132 = .ok (.laload, 1) := dk_47 (dk_at dksX2_find_5 14 rfl rfl)
theorem dX2_find_133 : decode cX2_find 133 = .ok (.invokestatic 140, 3) := dk_184 0 140 (dk_at dksX2_find_5 15 rfl rfl)
theorem dX2_find_136 : decode cX2_find 136 = .ok (.iload_n 1, 1) := dk_27 (dk_at dksX2_find_5 18 rfl rfl)
theorem dX2_find_137 : decode cX2_find 137 = .ok (.if_icmp .ne 23, 3) := dk_160 0 23 (dk_at dksX2_find_5 19 rfl rfl)
theorem dX2_find_140 : decode cX2_find 140 = .ok (.aload_n 0, 1) := dk_42 (dk_at dksX2_find_5 22 rfl rfl)
theorem dX2_find_141 : decode cX2_find 141 = .ok (.getfield 28, 3) := dk_180 0 28 (dk_at dksX2_find_6 0 rfl rfl)
theorem dX2_find_144 : decode cX2_find 144 = .ok (.iload_n 1, 1) := dk_27 (dk_at dksX2_find_6 3 rfl rfl)
theorem dX2_find_145 : decode cX2_find 145 = .ok (.aload_n 0, 1) := dk_42 (dk_at dksX2_find_6 4 rfl rfl)
theorem dX2_find_146 : decode cX2_find 146 = .ok (.getfield 57, 3) := dk_180 0 57 (dk_at dksX2_find_6 5 rfl rfl)
theorem dX2_find_149 : decode cX2_find 149 = .ok (.iastore, 1) := dk_79 (dk_at dksX2_find_6 8 rfl rfl)
theorem dX2_find_150 : decode cX2_find 150 = .ok (.aload_n 0, 1) := dk_42 (dk_at dksX2_find_6 9 rfl rfl)
theorem dX2_find_151 : decode cX2_find 151 = .ok (.dup, 1) := dk_89 (dk_at dksX2_find_6 10 rfl rfl)
theorem dX2_find_152 : decode cX2_find 152 = .ok (.getfield 57, 3) := dk_180 0 57 (dk_at dksX2_find_6 11 rfl rfl)
theorem dX2_find_155 : decode cX2_find 155 = .ok (.iconst 1, 1) := dk_4 (dk_at dksX2_find_6 14 rfl rfl)
theorem dX2_find_156 : decode cX2_find 156 = .ok (.iadd, 1) := dk_96 (dk_at dksX2_find_6 15 rfl rfl)
theorem dX2_find_157 : decode cX2_find 157 = .ok (.putfield 57, 3) := dk_181 0 57 (dk_at dksX2_find_6 16 rfl rfl)
theorem dX2_find_160 : decode cX2_find 160 = .ok (.iinc 1 1, 3) := dk_132 1 1 (dk_at dksX2_find_6 19 rfl rfl)
theorem dX2_find_163 : decode cX2_find 163 = .ok (.goto (-59), 3) := dk_167 255 197 (dk_at dksX2_find_7 0 rfl rfl)
theorem dX2_find_166 : decode cX2_find 166 = .ok (.iconst 0, 1) := dk_3 (dk_at dksX2_find_7 3 rfl rfl)
theorem dX2_find_167 : decode cX2_find 167 = .ok (.istore_n 1, 1) := dk_60 (dk_at dksX2_find_7 4 rfl rfl)
theorem dX2_find_168 : decode cX2_find 168 = .ok (.iload_n 1, 1) := dk_27 (dk_at dksX2_find_7 5 rfl rfl)
theorem dX2_find_169 : decode cX2_find 169 = .ok (.aload_n 0, 1) := dk_42 (dk_at dksX2_find_7 6 rfl rfl)
theorem dX2_find_170 : decode cX2_find 170 = .ok (.invokevirtual 112, 3) := dk_182 0 112 (dk_at dksX2_find_7 7 rfl rfl)
theorem dX2_find_173 : decode cX2_find 173 = .ok (.if_icmp .ge 47, 3) := dk_162 0 47 (dk_at dksX2_find_7 10 rfl rfl)
theorem dX2_find_176 : decode cX2_find 176 = .ok (.aload_n 0, 1) := dk_42 (dk_at dksX2_find_7 13 rfl rfl)
theorem dX2_find_177 : decode cX2_find 177 = .ok (.iload_n 1, 1) := dk_27 (dk_at dksX2_find_7 14 rfl rfl)
theorem dX2_find_178 : decode cX2_find 178 = .ok (.invokevirtual 143, 3) := dk_182 0 143 (dk_at dksX2_find_7 15 rfl rfl)
theorem dX2_find_181 : decode cX2_find 181 = .ok (.istore_n 2, 1) := dk_61 (dk_at dksX2_find_7 18 rfl rfl)
theorem dX2_find_182 : decode cX2_find 182 = .ok (.aload_n 0, 1) := dk_42 (dk_at dksX2_find_7 19 rfl rfl)
theorem dX2_find_183 : decode cX2_find 183 = .ok (.getfield 28, 3) := dk_180 0 28 (dk_at dksX2_find_7 20 rfl rfl)
theorem dX2_find_186 : decode cX2_find 186 = .ok (.iload_n 1, 1) := dk_27 (dk_at dksX2_find_7 23 rfl rfl)
theorem dX2_find_187 : decode cX2_find 187 = .ok (.aload_n 0, 1) := dk_42 (dk_at dksX2_find_8 0 rfl rfl)
theorem dX2_find_188 : decode cX2_find 188 = .ok (.iload_n 2, 1) := dk_28 (dk_at dksX2_find_8 1 rfl rfl)
theorem dX2_find_189 : decode cX2_find 189 = .ok (.invokevirtual 136, 3) := dk_182 0 136 (dk_at dksX2_find_8 2 rfl rfl)
theorem dX2_find_192 : decode cX2_find 192 = .ok (.ifCond .eq 20, 3) := dk_153 0 20 (dk_at dksX2_find_8 5 rfl rfl)
theorem dX2_find_195 : decode cX2_find 195 = .ok (.aload_n 0, 1) := dk_42 (dk_at dksX2_find_8 8 rfl rfl)
theorem dX2_find_196 : decode cX2_find 196 = .ok (.getfield 28, 3) := dk_180 0 28 (dk_at dksX2_find_8 9 rfl rfl)
theorem dX2_find_199 : decode cX2_find 199 = .ok (.aload_n 0, 1) := dk_42 (dk_at dksX2_find_8 12 rfl rfl)
theorem dX2_find_200 : decode cX2_find 200 = .ok (.getfield 21, 3) := dk_180 0 21 (dk_at dksX2_find_8 13 rfl rfl)
theorem dX2_find_203 : decode cX2_find 203 = .ok (.iload_n 2, 1) := dk_28 (dk_at dksX2_find_8 16 rfl rfl)
theorem dX2_find_204 : decode cX2_find 204 = .ok (.laload, 1) := dk_47 (dk_at dksX2_find_8 17 rfl rfl)
theorem dX2_find_205 : decode cX2_find 205 = .ok (.invokestatic 140, 3) := dk_184 0 140 (dk_at dksX2_find_8 18 rfl rfl)
theorem dX2_find_208 : decode cX2_find 208 = .ok (.iaload, 1) := dk_46 (dk_at dksX2_find_8 21 rfl rfl)
theorem dX2_find_209 : decode cX2_find 209 = .ok (.goto 4, 3) := dk_167 0 4 (dk_at dksX2_find_9 0 rfl rfl)
theorem dX2_find_212 : decode cX2_find 212 = .ok (.iconst (-1), 1) := dk_2 (dk_at dksX2_find_9 3 rfl rfl)
theorem dX2_find_213 : decode cX2_find 213 = .ok (.iastore, 1) := dk_79 (dk_at dksX2_find_9 4 rfl rfl)
theorem dX2_find_214 : decode cX2_find 214 = .ok (.iinc 1 1, 3) := dk_132 1 1 (dk_at dksX2_find_9 5 rfl rfl)
theorem dX2_find_217 : decode cX2_find 217 = .ok (.goto (-49), 3) := dk_167 255 207 (dk_at dksX2_find_9 8 rfl rfl)
theorem dX2_find_220 : decode cX2_find 220 = .ok (.return_, 1) := dk_177 (dk_at dksX2_find_9 11 rfl rfl)
abbrev cX2_size : ByteArray := prog_8_method_3_code
def yX2_size : MethodName := ⟨RX2, "size", "()I"⟩
def dkwX2_size_0 : List UInt8 := [42, 180, 0, 31, 42, 180, 0, 35, 104, 172]
abbrev dktX2_size_0 : List UInt8 := dkwX2_size_0 ++ []
theorem dksX2_size_0 : cX2_size.data.toList.drop 0 = dktX2_size_0 := by decide +kernel
theorem dX2_size_0 : decode cX2_size 0 = .ok (.aload_n 0, 1) := dk_42 (dk_at dksX2_size_0 0 rfl rfl)
theorem dX2_size_1 : decode cX2_size 1 = .ok (.getfield 31, 3) := dk_180 0 31 (dk_at dksX2_size_0 1 rfl rfl)
theorem dX2_size_4 : decode cX2_size 4 = .ok (.aload_n 0, 1) := dk_42 (dk_at dksX2_size_0 4 rfl rfl)
theorem dX2_size_5 : decode cX2_size 5 = .ok (.getfield 35, 3) := dk_180 0 35 (dk_at dksX2_size_0 5 rfl rfl)
theorem dX2_size_8 : decode cX2_size 8 = .ok (.imul, 1) := dk_104 (dk_at dksX2_size_0 8 rfl rfl)
theorem dX2_size_9 : decode cX2_size 9 = .ok (.ireturn, 1) := dk_172 (dk_at dksX2_size_0 9 rfl rfl)
abbrev cX2_plainBefore : ByteArray := prog_8_method_14_code
def yX2_plainBefore : MethodName := ⟨RX2, "plainBefore", "(I)J"⟩
def dkwX2_plainBefore_1 : List UInt8 := [153, 0, 13, 42, 180, 0, 21, 21, 4, 47, 167, 0, 4, 32, 65, 132, 4, 1, 167, 255, 221, 32, 173]
abbrev dktX2_plainBefore_1 : List UInt8 := dkwX2_plainBefore_1 ++ []
def dkwX2_plainBefore_0 : List UInt8 := [9, 65, 3, 54, 4, 21, 4, 27, 162, 0, 35, 42, 180, 0, 21, 21, 4, 47, 27, 184, 0, 115]
abbrev dktX2_plainBefore_0 : List UInt8 := dkwX2_plainBefore_0 ++ dktX2_plainBefore_1
theorem dksX2_plainBefore_0 : cX2_plainBefore.data.toList.drop 0 = dktX2_plainBefore_0 := by decide +kernel
theorem dksX2_plainBefore_1 : cX2_plainBefore.data.toList.drop 22 = dktX2_plainBefore_1 := dk_seg dksX2_plainBefore_0 22 rfl rfl
theorem dX2_plainBefore_0 : decode cX2_plainBefore 0 = .ok (.lconst 0, 1) := dk_9 (dk_at dksX2_plainBefore_0 0 rfl rfl)
theorem dX2_plainBefore_1 : decode cX2_plainBefore 1 = .ok (.lstore_n 2, 1) := dk_65 (dk_at dksX2_plainBefore_0 1 rfl rfl)
theorem dX2_plainBefore_2 : decode cX2_plainBefore 2 = .ok (.iconst 0, 1) := dk_3 (dk_at dksX2_plainBefore_0 2 rfl rfl)
theorem dX2_plainBefore_3 : decode cX2_plainBefore 3 = .ok (.istore 4, 2) := dk_54 4 (dk_at dksX2_plainBefore_0 3 rfl rfl)
theorem dX2_plainBefore_5 : decode cX2_plainBefore 5 = .ok (.iload 4, 2) := dk_21 4 (dk_at dksX2_plainBefore_0 5 rfl rfl)
theorem dX2_plainBefore_7 : decode cX2_plainBefore 7 = .ok (.iload_n 1, 1) := dk_27 (dk_at dksX2_plainBefore_0 7 rfl rfl)
theorem dX2_plainBefore_8 : decode cX2_plainBefore 8 = .ok (.if_icmp .ge 35, 3) := dk_162 0 35 (dk_at dksX2_plainBefore_0 8 rfl rfl)
theorem dX2_plainBefore_11 : decode cX2_plainBefore 11 = .ok (.aload_n 0, 1) := dk_42 (dk_at dksX2_plainBefore_0 11 rfl rfl)
theorem dX2_plainBefore_12 : decode cX2_plainBefore 12 = .ok (.getfield 21, 3) := dk_180 0 21 (dk_at dksX2_plainBefore_0 12 rfl rfl)
theorem dX2_plainBefore_15 : decode cX2_plainBefore 15 = .ok (.iload 4, 2) := dk_21 4 (dk_at dksX2_plainBefore_0 15 rfl rfl)
theorem dX2_plainBefore_17 : decode cX2_plainBefore 17 = .ok (.laload, 1) := dk_47 (dk_at dksX2_plainBefore_0 17 rfl rfl)
theorem dX2_plainBefore_18 : decode cX2_plainBefore 18 = .ok (.iload_n 1, 1) := dk_27 (dk_at dksX2_plainBefore_0 18 rfl rfl)
theorem dX2_plainBefore_19 : decode cX2_plainBefore 19 = .ok (.invokestatic 115, 3) := dk_184 0 115 (dk_at dksX2_plainBefore_0 19 rfl rfl)
theorem dX2_plainBefore_22 : decode cX2_plainBefore 22 = .ok (.ifCond .eq 13, 3) := dk_153 0 13 (dk_at dksX2_plainBefore_1 0 rfl rfl)
theorem dX2_plainBefore_25 : decode cX2_plainBefore 25 = .ok (.aload_n 0, 1) := dk_42 (dk_at dksX2_plainBefore_1 3 rfl rfl)
theorem dX2_plainBefore_26 : decode cX2_plainBefore 26 = .ok (.getfield 21, 3) := dk_180 0 21 (dk_at dksX2_plainBefore_1 4 rfl rfl)
theorem dX2_plainBefore_29 : decode cX2_plainBefore 29 = .ok (.iload 4, 2) := dk_21 4 (dk_at dksX2_plainBefore_1 7 rfl rfl)
theorem dX2_plainBefore_31 : decode cX2_plainBefore 31 = .ok (.laload, 1) := dk_47 (dk_at dksX2_plainBefore_1 9 rfl rfl)
theorem dX2_plainBefore_32 : decode cX2_plainBefore 32 = .ok (.goto 4, 3) := dk_167 0 4 (dk_at dksX2_plainBefore_1 10 rfl rfl)
theorem dX2_plainBefore_35 : decode cX2_plainBefore 35 = .ok (.lload_n 2, 1) := dk_32 (dk_at dksX2_plainBefore_1 13 rfl rfl)
theorem dX2_plainBefore_36 : decode cX2_plainBefore 36 = .ok (.lstore_n 2, 1) := dk_65 (dk_at dksX2_plainBefore_1 14 rfl rfl)
theorem dX2_plainBefore_37 : decode cX2_plainBefore 37 = .ok (.iinc 4 1, 3) := dk_132 4 1 (dk_at dksX2_plainBefore_1 15 rfl rfl)
theorem dX2_plainBefore_40 : decode cX2_plainBefore 40 = .ok (.goto (-35), 3) := dk_167 255 221 (dk_at dksX2_plainBefore_1 18 rfl rfl)
theorem dX2_plainBefore_43 : decode cX2_plainBefore 43 = .ok (.lload_n 2, 1) := dk_32 (dk_at dksX2_plainBefore_1 21 rfl rfl)
theorem dX2_plainBefore_44 : decode cX2_plainBefore 44 = .ok (.lreturn, 1) := dk_173 (dk_at dksX2_plainBefore_1 22 rfl rfl)
abbrev cX2_plainOf : ByteArray := prog_8_method_10_code
def yX2_plainOf : MethodName := ⟨RX2, "plainOf", "(I)J"⟩
def dkwX2_plainOf_4 : List UInt8 := [121, 129, 65, 25, 4, 21, 6, 184, 0, 90, 182, 0, 96, 132, 6, 1, 167, 255, 190, 167, 255, 163, 32, 173]
abbrev dktX2_plainOf_4 : List UInt8 := dkwX2_plainOf_4 ++ []
def dkwX2_plainOf_3 : List UInt8 := [180, 0, 9, 21, 5, 46, 160, 0, 31, 42, 21, 5, 21, 6, 182, 0, 119, 153, 0, 20, 32, 10, 21, 6]
abbrev dktX2_plainOf_3 : List UInt8 := dkwX2_plainOf_3 ++ dktX2_plainOf_4
def dkwX2_plainOf_2 : List UInt8 := [42, 182, 0, 112, 162, 0, 63, 32, 21, 6, 184, 0, 115, 154, 0, 48, 42, 180, 0, 9, 21, 6, 46, 42]
abbrev dktX2_plainOf_2 : List UInt8 := dkwX2_plainOf_2 ++ dktX2_plainOf_3
def dkwX2_plainOf_1 : List UInt8 := [182, 0, 100, 154, 0, 91, 25, 4, 182, 0, 104, 192, 0, 91, 182, 0, 108, 54, 5, 3, 54, 6, 21, 6]
abbrev dktX2_plainOf_1 : List UInt8 := dkwX2_plainOf_1 ++ dktX2_plainOf_2
def dkwX2_plainOf_0 : List UInt8 := [10, 27, 121, 65, 187, 0, 87, 89, 183, 0, 89, 58, 4, 25, 4, 27, 184, 0, 90, 182, 0, 96, 25, 4]
abbrev dktX2_plainOf_0 : List UInt8 := dkwX2_plainOf_0 ++ dktX2_plainOf_1
theorem dksX2_plainOf_0 : cX2_plainOf.data.toList.drop 0 = dktX2_plainOf_0 := by decide +kernel
theorem dksX2_plainOf_1 : cX2_plainOf.data.toList.drop 24 = dktX2_plainOf_1 := dk_seg dksX2_plainOf_0 24 rfl rfl
theorem dksX2_plainOf_2 : cX2_plainOf.data.toList.drop 48 = dktX2_plainOf_2 := dk_seg dksX2_plainOf_1 24 rfl rfl
theorem dksX2_plainOf_3 : cX2_plainOf.data.toList.drop 72 = dktX2_plainOf_3 := dk_seg dksX2_plainOf_2 24 rfl rfl
theorem dksX2_plainOf_4 : cX2_plainOf.data.toList.drop 96 = dktX2_plainOf_4 := dk_seg dksX2_plainOf_3 24 rfl rfl
theorem dX2_plainOf_0 : decode cX2_plainOf 0 = .ok (.lconst 1, 1) := dk_10 (dk_at dksX2_plainOf_0 0 rfl rfl)
theorem dX2_plainOf_1 : decode cX2_plainOf 1 = .ok (.iload_n 1, 1) := dk_27 (dk_at dksX2_plainOf_0 1 rfl rfl)
theorem dX2_plainOf_2 : decode cX2_plainOf 2 = .ok (.lshl, 1) := dk_121 (dk_at dksX2_plainOf_0 2 rfl rfl)
theorem dX2_plainOf_3 : decode cX2_plainOf 3 = .ok (.lstore_n 2, 1) := dk_65 (dk_at dksX2_plainOf_0 3 rfl rfl)
theorem dX2_plainOf_4 : decode cX2_plainOf 4 = .ok (.new 87, 3) := dk_187 0 87 (dk_at dksX2_plainOf_0 4 rfl rfl)
theorem dX2_plainOf_7 : decode cX2_plainOf 7 = .ok (.dup, 1) := dk_89 (dk_at dksX2_plainOf_0 7 rfl rfl)
theorem dX2_plainOf_8 : decode cX2_plainOf 8 = .ok (.invokespecial 89, 3) := dk_183 0 89 (dk_at dksX2_plainOf_0 8 rfl rfl)
theorem dX2_plainOf_11 : decode cX2_plainOf 11 = .ok (.astore 4, 2) := dk_58 4 (dk_at dksX2_plainOf_0 11 rfl rfl)
theorem dX2_plainOf_13 : decode cX2_plainOf 13 = .ok (.aload 4, 2) := dk_25 4 (dk_at dksX2_plainOf_0 13 rfl rfl)
theorem dX2_plainOf_15 : decode cX2_plainOf 15 = .ok (.iload_n 1, 1) := dk_27 (dk_at dksX2_plainOf_0 15 rfl rfl)
theorem dX2_plainOf_16 : decode cX2_plainOf 16 = .ok (.invokestatic 90, 3) := dk_184 0 90 (dk_at dksX2_plainOf_0 16 rfl rfl)
theorem dX2_plainOf_19 : decode cX2_plainOf 19 = .ok (.invokevirtual 96, 3) := dk_182 0 96 (dk_at dksX2_plainOf_0 19 rfl rfl)
theorem dX2_plainOf_22 : decode cX2_plainOf 22 = .ok (.aload 4, 2) := dk_25 4 (dk_at dksX2_plainOf_0 22 rfl rfl)
theorem dX2_plainOf_24 : decode cX2_plainOf 24 = .ok (.invokevirtual 100, 3) := dk_182 0 100 (dk_at dksX2_plainOf_1 0 rfl rfl)
theorem dX2_plainOf_27 : decode cX2_plainOf 27 = .ok (.ifCond .ne 91, 3) := dk_154 0 91 (dk_at dksX2_plainOf_1 3 rfl rfl)
theorem dX2_plainOf_30 : decode cX2_plainOf 30 = .ok (.aload 4, 2) := dk_25 4 (dk_at dksX2_plainOf_1 6 rfl rfl)
theorem dX2_plainOf_32 : decode cX2_plainOf 32 = .ok (.invokevirtual 104, 3) := dk_182 0 104 (dk_at dksX2_plainOf_1 8 rfl rfl)
theorem dX2_plainOf_35 : decode cX2_plainOf 35 = .ok (.checkcast 91, 3) := dk_192 0 91 (dk_at dksX2_plainOf_1 11 rfl rfl)
theorem dX2_plainOf_38 : decode cX2_plainOf 38 = .ok (.invokevirtual 108, 3) := dk_182 0 108 (dk_at dksX2_plainOf_1 14 rfl rfl)
theorem dX2_plainOf_41 : decode cX2_plainOf 41 = .ok (.istore 5, 2) := dk_54 5 (dk_at dksX2_plainOf_1 17 rfl rfl)
theorem dX2_plainOf_43 : decode cX2_plainOf 43 = .ok (.iconst 0, 1) := dk_3 (dk_at dksX2_plainOf_1 19 rfl rfl)
theorem dX2_plainOf_44 : decode cX2_plainOf 44 = .ok (.istore 6, 2) := dk_54 6 (dk_at dksX2_plainOf_1 20 rfl rfl)
theorem dX2_plainOf_46 : decode cX2_plainOf 46 = .ok (.iload 6, 2) := dk_21 6 (dk_at dksX2_plainOf_1 22 rfl rfl)
theorem dX2_plainOf_48 : decode cX2_plainOf 48 = .ok (.aload_n 0, 1) := dk_42 (dk_at dksX2_plainOf_2 0 rfl rfl)
theorem dX2_plainOf_49 : decode cX2_plainOf 49 = .ok (.invokevirtual 112, 3) := dk_182 0 112 (dk_at dksX2_plainOf_2 1 rfl rfl)
theorem dX2_plainOf_52 : decode cX2_plainOf 52 = .ok (.if_icmp .ge 63, 3) := dk_162 0 63 (dk_at dksX2_plainOf_2 4 rfl rfl)
theorem dX2_plainOf_55 : decode cX2_plainOf 55 = .ok (.lload_n 2, 1) := dk_32 (dk_at dksX2_plainOf_2 7 rfl rfl)
theorem dX2_plainOf_56 : decode cX2_plainOf 56 = .ok (.iload 6, 2) := dk_21 6 (dk_at dksX2_plainOf_2 8 rfl rfl)
theorem dX2_plainOf_58 : decode cX2_plainOf 58 = .ok (.invokestatic 115, 3) := dk_184 0 115 (dk_at dksX2_plainOf_2 10 rfl rfl)
theorem dX2_plainOf_61 : decode cX2_plainOf 61 = .ok (.ifCond .ne 48, 3) := dk_154 0 48 (dk_at dksX2_plainOf_2 13 rfl rfl)
theorem dX2_plainOf_64 : decode cX2_plainOf 64 = .ok (.aload_n 0, 1) := dk_42 (dk_at dksX2_plainOf_2 16 rfl rfl)
theorem dX2_plainOf_65 : decode cX2_plainOf 65 = .ok (.getfield 9, 3) := dk_180 0 9 (dk_at dksX2_plainOf_2 17 rfl rfl)
theorem dX2_plainOf_68 : decode cX2_plainOf 68 = .ok (.iload 6, 2) := dk_21 6 (dk_at dksX2_plainOf_2 20 rfl rfl)
theorem dX2_plainOf_70 : decode cX2_plainOf 70 = .ok (.iaload, 1) := dk_46 (dk_at dksX2_plainOf_2 22 rfl rfl)
theorem dX2_plainOf_71 : decode cX2_plainOf 71 = .ok (.aload_n 0, 1) := dk_42 (dk_at dksX2_plainOf_2 23 rfl rfl)
theorem dX2_plainOf_72 : decode cX2_plainOf 72 = .ok (.getfield 9, 3) := dk_180 0 9 (dk_at dksX2_plainOf_3 0 rfl rfl)
theorem dX2_plainOf_75 : decode cX2_plainOf 75 = .ok (.iload 5, 2) := dk_21 5 (dk_at dksX2_plainOf_3 3 rfl rfl)
theorem dX2_plainOf_77 : decode cX2_plainOf 77 = .ok (.iaload, 1) := dk_46 (dk_at dksX2_plainOf_3 5 rfl rfl)
theorem dX2_plainOf_78 : decode cX2_plainOf 78 = .ok (.if_icmp .ne 31, 3) := dk_160 0 31 (dk_at dksX2_plainOf_3 6 rfl rfl)
theorem dX2_plainOf_81 : decode cX2_plainOf 81 = .ok (.aload_n 0, 1) := dk_42 (dk_at dksX2_plainOf_3 9 rfl rfl)
theorem dX2_plainOf_82 : decode cX2_plainOf 82 = .ok (.iload 5, 2) := dk_21 5 (dk_at dksX2_plainOf_3 10 rfl rfl)
theorem dX2_plainOf_84 : decode cX2_plainOf 84 = .ok (.iload 6, 2) := dk_21 6 (dk_at dksX2_plainOf_3 12 rfl rfl)
theorem dX2_plainOf_86 : decode cX2_plainOf 86 = .ok (.invokevirtual 119, 3) := dk_182 0 119 (dk_at dksX2_plainOf_3 14 rfl rfl)
theorem dX2_plainOf_89 : decode cX2_plainOf 89 = .ok (.ifCond .eq 20, 3) := dk_153 0 20 (dk_at dksX2_plainOf_3 17 rfl rfl)
theorem dX2_plainOf_92 : decode cX2_plainOf 92 = .ok (.lload_n 2, 1) := dk_32 (dk_at dksX2_plainOf_3 20 rfl rfl)
theorem dX2_plainOf_93 : decode cX2_plainOf 93 = .ok (.lconst 1, 1) := dk_10 (dk_at dksX2_plainOf_3 21 rfl rfl)
theorem dX2_plainOf_94 : decode cX2_plainOf 94 = .ok (.iload 6, 2) := dk_21 6 (dk_at dksX2_plainOf_3 22 rfl rfl)
theorem dX2_plainOf_96 : decode cX2_plainOf 96 = .ok (.lshl, 1) := dk_121 (dk_at dksX2_plainOf_4 0 rfl rfl)
theorem dX2_plainOf_97 : decode cX2_plainOf 97 = .ok (.lor, 1) := dk_129 (dk_at dksX2_plainOf_4 1 rfl rfl)
theorem dX2_plainOf_98 : decode cX2_plainOf 98 = .ok (.lstore_n 2, 1) := dk_65 (dk_at dksX2_plainOf_4 2 rfl rfl)
theorem dX2_plainOf_99 : decode cX2_plainOf 99 = .ok (.aload 4, 2) := dk_25 4 (dk_at dksX2_plainOf_4 3 rfl rfl)
theorem dX2_plainOf_101 : decode cX2_plainOf 101 = .ok (.iload 6, 2) := dk_21 6 (dk_at dksX2_plainOf_4 5 rfl rfl)
theorem dX2_plainOf_103 : decode cX2_plainOf 103 = .ok (.invokestatic 90, 3) := dk_184 0 90 (dk_at dksX2_plainOf_4 7 rfl rfl)
theorem dX2_plainOf_106 : decode cX2_plainOf 106 = .ok (.invokevirtual 96, 3) := dk_182 0 96 (dk_at dksX2_plainOf_4 10 rfl rfl)
theorem dX2_plainOf_109 : decode cX2_plainOf 109 = .ok (.iinc 6 1, 3) := dk_132 6 1 (dk_at dksX2_plainOf_4 13 rfl rfl)
theorem dX2_plainOf_112 : decode cX2_plainOf 112 = .ok (.goto (-66), 3) := dk_167 255 190 (dk_at dksX2_plainOf_4 16 rfl rfl)
theorem dX2_plainOf_115 : decode cX2_plainOf 115 = .ok (.goto (-93), 3) := dk_167 255 163 (dk_at dksX2_plainOf_4 19 rfl rfl)
theorem dX2_plainOf_118 : decode cX2_plainOf 118 = .ok (.lload_n 2, 1) := dk_32 (dk_at dksX2_plainOf_4 22 rfl rfl)
theorem dX2_plainOf_119 : decode cX2_plainOf 119 = .ok (.lreturn, 1) := dk_173 (dk_at dksX2_plainOf_4 23 rfl rfl)
abbrev cX2_runs : ByteArray := prog_8_method_9_code
def yX2_runs : MethodName := ⟨RX2, "runs", "(II)Z"⟩
def dkwX2_runs_1 : List UInt8 := [4, 167, 0, 4, 3, 172]
abbrev dktX2_runs_1 : List UInt8 := dkwX2_runs_1 ++ []
def dkwX2_runs_0 : List UInt8 := [42, 27, 28, 182, 0, 80, 153, 0, 22, 42, 27, 28, 182, 0, 84, 42, 180, 0, 9, 27, 46, 160, 0, 7]
abbrev dktX2_runs_0 : List UInt8 := dkwX2_runs_0 ++ dktX2_runs_1
theorem dksX2_runs_0 : cX2_runs.data.toList.drop 0 = dktX2_runs_0 := by decide +kernel
theorem dksX2_runs_1 : cX2_runs.data.toList.drop 24 = dktX2_runs_1 := dk_seg dksX2_runs_0 24 rfl rfl
theorem dX2_runs_0 : decode cX2_runs 0 = .ok (.aload_n 0, 1) := dk_42 (dk_at dksX2_runs_0 0 rfl rfl)
theorem dX2_runs_1 : decode cX2_runs 1 = .ok (.iload_n 1, 1) := dk_27 (dk_at dksX2_runs_0 1 rfl rfl)
theorem dX2_runs_2 : decode cX2_runs 2 = .ok (.iload_n 2, 1) := dk_28 (dk_at dksX2_runs_0 2 rfl rfl)
theorem dX2_runs_3 : decode cX2_runs 3 = .ok (.invokevirtual 80, 3) := dk_182 0 80 (dk_at dksX2_runs_0 3 rfl rfl)
theorem dX2_runs_6 : decode cX2_runs 6 = .ok (.ifCond .eq 22, 3) := dk_153 0 22 (dk_at dksX2_runs_0 6 rfl rfl)
theorem dX2_runs_9 : decode cX2_runs 9 = .ok (.aload_n 0, 1) := dk_42 (dk_at dksX2_runs_0 9 rfl rfl)
theorem dX2_runs_10 : decode cX2_runs 10 = .ok (.iload_n 1, 1) := dk_27 (dk_at dksX2_runs_0 10 rfl rfl)
theorem dX2_runs_11 : decode cX2_runs 11 = .ok (.iload_n 2, 1) := dk_28 (dk_at dksX2_runs_0 11 rfl rfl)
theorem dX2_runs_12 : decode cX2_runs 12 = .ok (.invokevirtual 84, 3) := dk_182 0 84 (dk_at dksX2_runs_0 12 rfl rfl)
theorem dX2_runs_15 : decode cX2_runs 15 = .ok (.aload_n 0, 1) := dk_42 (dk_at dksX2_runs_0 15 rfl rfl)
theorem dX2_runs_16 : decode cX2_runs 16 = .ok (.getfield 9, 3) := dk_180 0 9 (dk_at dksX2_runs_0 16 rfl rfl)
theorem dX2_runs_19 : decode cX2_runs 19 = .ok (.iload_n 1, 1) := dk_27 (dk_at dksX2_runs_0 19 rfl rfl)
theorem dX2_runs_20 : decode cX2_runs 20 = .ok (.iaload, 1) := dk_46 (dk_at dksX2_runs_0 20 rfl rfl)
theorem dX2_runs_21 : decode cX2_runs 21 = .ok (.if_icmp .ne 7, 3) := dk_160 0 7 (dk_at dksX2_runs_0 21 rfl rfl)
theorem dX2_runs_24 : decode cX2_runs 24 = .ok (.iconst 1, 1) := dk_4 (dk_at dksX2_runs_1 0 rfl rfl)
theorem dX2_runs_25 : decode cX2_runs 25 = .ok (.goto 4, 3) := dk_167 0 4 (dk_at dksX2_runs_1 1 rfl rfl)
theorem dX2_runs_28 : decode cX2_runs 28 = .ok (.iconst 0, 1) := dk_3 (dk_at dksX2_runs_1 4 rfl rfl)
theorem dX2_runs_29 : decode cX2_runs 29 = .ok (.ireturn, 1) := dk_172 (dk_at dksX2_runs_1 5 rfl rfl)
abbrev cX2_areNeighbors : ByteArray := prog_8_method_4_code
def yX2_areNeighbors : MethodName := ⟨RX2, "areNeighbors", "(II)Z"⟩
def dkwX2_areNeighbors_1 : List UInt8 := [180, 0, 31, 112, 100, 184, 0, 60, 96, 62, 29, 4, 160, 0, 7, 4, 167, 0, 4, 3, 172]
abbrev dktX2_areNeighbors_1 : List UInt8 := dkwX2_areNeighbors_1 ++ []
def dkwX2_areNeighbors_0 : List UInt8 := [27, 42, 180, 0, 31, 108, 28, 42, 180, 0, 31, 108, 100, 184, 0, 60, 27, 42, 180, 0, 31, 112, 28, 42]
abbrev dktX2_areNeighbors_0 : List UInt8 := dkwX2_areNeighbors_0 ++ dktX2_areNeighbors_1
theorem dksX2_areNeighbors_0 : cX2_areNeighbors.data.toList.drop 0 = dktX2_areNeighbors_0 := by decide +kernel
theorem dksX2_areNeighbors_1 : cX2_areNeighbors.data.toList.drop 24 = dktX2_areNeighbors_1 := dk_seg dksX2_areNeighbors_0 24 rfl rfl
theorem dX2_areNeighbors_0 : decode cX2_areNeighbors 0 = .ok (.iload_n 1, 1) := dk_27 (dk_at dksX2_areNeighbors_0 0 rfl rfl)
theorem dX2_areNeighbors_1 : decode cX2_areNeighbors 1 = .ok (.aload_n 0, 1) := dk_42 (dk_at dksX2_areNeighbors_0 1 rfl rfl)
theorem dX2_areNeighbors_2 : decode cX2_areNeighbors 2 = .ok (.getfield 31, 3) := dk_180 0 31 (dk_at dksX2_areNeighbors_0 2 rfl rfl)
theorem dX2_areNeighbors_5 : decode cX2_areNeighbors 5 = .ok (.idiv, 1) := dk_108 (dk_at dksX2_areNeighbors_0 5 rfl rfl)
theorem dX2_areNeighbors_6 : decode cX2_areNeighbors 6 = .ok (.iload_n 2, 1) := dk_28 (dk_at dksX2_areNeighbors_0 6 rfl rfl)
theorem dX2_areNeighbors_7 : decode cX2_areNeighbors 7 = .ok (.aload_n 0, 1) := dk_42 (dk_at dksX2_areNeighbors_0 7 rfl rfl)
theorem dX2_areNeighbors_8 : decode cX2_areNeighbors 8 = .ok (.getfield 31, 3) := dk_180 0 31 (dk_at dksX2_areNeighbors_0 8 rfl rfl)
theorem dX2_areNeighbors_11 : decode cX2_areNeighbors 11 = .ok (.idiv, 1) := dk_108 (dk_at dksX2_areNeighbors_0 11 rfl rfl)
theorem dX2_areNeighbors_12 : decode cX2_areNeighbors 12 = .ok (.isub, 1) := dk_100 (dk_at dksX2_areNeighbors_0 12 rfl rfl)
theorem dX2_areNeighbors_13 : decode cX2_areNeighbors 13 = .ok (.invokestatic 60, 3) := dk_184 0 60 (dk_at dksX2_areNeighbors_0 13 rfl rfl)
theorem dX2_areNeighbors_16 : decode cX2_areNeighbors 16 = .ok (.iload_n 1, 1) := dk_27 (dk_at dksX2_areNeighbors_0 16 rfl rfl)
theorem dX2_areNeighbors_17 : decode cX2_areNeighbors 17 = .ok (.aload_n 0, 1) := dk_42 (dk_at dksX2_areNeighbors_0 17 rfl rfl)
theorem dX2_areNeighbors_18 : decode cX2_areNeighbors 18 = .ok (.getfield 31, 3) := dk_180 0 31 (dk_at dksX2_areNeighbors_0 18 rfl rfl)
theorem dX2_areNeighbors_21 : decode cX2_areNeighbors 21 = .ok (.irem, 1) := dk_112 (dk_at dksX2_areNeighbors_0 21 rfl rfl)
theorem dX2_areNeighbors_22 : decode cX2_areNeighbors 22 = .ok (.iload_n 2, 1) := dk_28 (dk_at dksX2_areNeighbors_0 22 rfl rfl)
theorem dX2_areNeighbors_23 : decode cX2_areNeighbors 23 = .ok (.aload_n 0, 1) := dk_42 (dk_at dksX2_areNeighbors_0 23 rfl rfl)
theorem dX2_areNeighbors_24 : decode cX2_areNeighbors 24 = .ok (.getfield 31, 3) := dk_180 0 31 (dk_at dksX2_areNeighbors_1 0 rfl rfl)
theorem dX2_areNeighbors_27 : decode cX2_areNeighbors 27 = .ok (.irem, 1) := dk_112 (dk_at dksX2_areNeighbors_1 3 rfl rfl)
theorem dX2_areNeighbors_28 : decode cX2_areNeighbors 28 = .ok (.isub, 1) := dk_100 (dk_at dksX2_areNeighbors_1 4 rfl rfl)
theorem dX2_areNeighbors_29 : decode cX2_areNeighbors 29 = .ok (.invokestatic 60, 3) := dk_184 0 60 (dk_at dksX2_areNeighbors_1 5 rfl rfl)
theorem dX2_areNeighbors_32 : decode cX2_areNeighbors 32 = .ok (.iadd, 1) := dk_96 (dk_at dksX2_areNeighbors_1 8 rfl rfl)
theorem dX2_areNeighbors_33 : decode cX2_areNeighbors 33 = .ok (.istore_n 3, 1) := dk_62 (dk_at dksX2_areNeighbors_1 9 rfl rfl)
theorem dX2_areNeighbors_34 : decode cX2_areNeighbors 34 = .ok (.iload_n 3, 1) := dk_29 (dk_at dksX2_areNeighbors_1 10 rfl rfl)
theorem dX2_areNeighbors_35 : decode cX2_areNeighbors 35 = .ok (.iconst 1, 1) := dk_4 (dk_at dksX2_areNeighbors_1 11 rfl rfl)
theorem dX2_areNeighbors_36 : decode cX2_areNeighbors 36 = .ok (.if_icmp .ne 7, 3) := dk_160 0 7 (dk_at dksX2_areNeighbors_1 12 rfl rfl)
theorem dX2_areNeighbors_39 : decode cX2_areNeighbors 39 = .ok (.iconst 1, 1) := dk_4 (dk_at dksX2_areNeighbors_1 15 rfl rfl)
theorem dX2_areNeighbors_40 : decode cX2_areNeighbors 40 = .ok (.goto 4, 3) := dk_167 0 4 (dk_at dksX2_areNeighbors_1 16 rfl rfl)
theorem dX2_areNeighbors_43 : decode cX2_areNeighbors 43 = .ok (.iconst 0, 1) := dk_3 (dk_at dksX2_areNeighbors_1 19 rfl rfl)
theorem dX2_areNeighbors_44 : decode cX2_areNeighbors 44 = .ok (.ireturn, 1) := dk_172 (dk_at dksX2_areNeighbors_1 20 rfl rfl)
abbrev cX2_threshold : ByteArray := prog_8_method_8_code
def yX2_threshold : MethodName := ⟨RX2, "threshold", "(II)I"⟩
def dkwX2_threshold_1 : List UInt8 := [172]
abbrev dktX2_threshold_1 : List UInt8 := dkwX2_threshold_1 ++ []
def dkwX2_threshold_0 : List UInt8 := [42, 180, 0, 9, 27, 46, 42, 180, 0, 9, 28, 46, 184, 0, 74, 42, 27, 28, 182, 0, 77, 184, 0, 74]
abbrev dktX2_threshold_0 : List UInt8 := dkwX2_threshold_0 ++ dktX2_threshold_1
theorem dksX2_threshold_0 : cX2_threshold.data.toList.drop 0 = dktX2_threshold_0 := by decide +kernel
theorem dksX2_threshold_1 : cX2_threshold.data.toList.drop 24 = dktX2_threshold_1 := dk_seg dksX2_threshold_0 24 rfl rfl
theorem dX2_threshold_0 : decode cX2_threshold 0 = .ok (.aload_n 0, 1) := dk_42 (dk_at dksX2_threshold_0 0 rfl rfl)
theorem dX2_threshold_1 : decode cX2_threshold 1 = .ok (.getfield 9, 3) := dk_180 0 9 (dk_at dksX2_threshold_0 1 rfl rfl)
theorem dX2_threshold_4 : decode cX2_threshold 4 = .ok (.iload_n 1, 1) := dk_27 (dk_at dksX2_threshold_0 4 rfl rfl)
theorem dX2_threshold_5 : decode cX2_threshold 5 = .ok (.iaload, 1) := dk_46 (dk_at dksX2_threshold_0 5 rfl rfl)
theorem dX2_threshold_6 : decode cX2_threshold 6 = .ok (.aload_n 0, 1) := dk_42 (dk_at dksX2_threshold_0 6 rfl rfl)
theorem dX2_threshold_7 : decode cX2_threshold 7 = .ok (.getfield 9, 3) := dk_180 0 9 (dk_at dksX2_threshold_0 7 rfl rfl)
theorem dX2_threshold_10 : decode cX2_threshold 10 = .ok (.iload_n 2, 1) := dk_28 (dk_at dksX2_threshold_0 10 rfl rfl)
theorem dX2_threshold_11 : decode cX2_threshold 11 = .ok (.iaload, 1) := dk_46 (dk_at dksX2_threshold_0 11 rfl rfl)
theorem dX2_threshold_12 : decode cX2_threshold 12 = .ok (.invokestatic 74, 3) := dk_184 0 74 (dk_at dksX2_threshold_0 12 rfl rfl)
theorem dX2_threshold_15 : decode cX2_threshold 15 = .ok (.aload_n 0, 1) := dk_42 (dk_at dksX2_threshold_0 15 rfl rfl)
theorem dX2_threshold_16 : decode cX2_threshold 16 = .ok (.iload_n 1, 1) := dk_27 (dk_at dksX2_threshold_0 16 rfl rfl)
theorem dX2_threshold_17 : decode cX2_threshold 17 = .ok (.iload_n 2, 1) := dk_28 (dk_at dksX2_threshold_0 17 rfl rfl)
theorem dX2_threshold_18 : decode cX2_threshold 18 = .ok (.invokevirtual 77, 3) := dk_182 0 77 (dk_at dksX2_threshold_0 18 rfl rfl)
theorem dX2_threshold_21 : decode cX2_threshold 21 = .ok (.invokestatic 74, 3) := dk_184 0 74 (dk_at dksX2_threshold_0 21 rfl rfl)
theorem dX2_threshold_24 : decode cX2_threshold 24 = .ok (.ireturn, 1) := dk_172 (dk_at dksX2_threshold_1 0 rfl rfl)
abbrev cX2_gate : ByteArray := prog_8_method_6_code
def yX2_gate : MethodName := ⟨RX2, "gate", "(II)I"⟩
def dkwX2_gate_0 : List UInt8 := [42, 27, 28, 182, 0, 66, 27, 28, 184, 0, 70, 46, 172]
abbrev dktX2_gate_0 : List UInt8 := dkwX2_gate_0 ++ []
theorem dksX2_gate_0 : cX2_gate.data.toList.drop 0 = dktX2_gate_0 := by decide +kernel
theorem dX2_gate_0 : decode cX2_gate 0 = .ok (.aload_n 0, 1) := dk_42 (dk_at dksX2_gate_0 0 rfl rfl)
theorem dX2_gate_1 : decode cX2_gate 1 = .ok (.iload_n 1, 1) := dk_27 (dk_at dksX2_gate_0 1 rfl rfl)
theorem dX2_gate_2 : decode cX2_gate 2 = .ok (.iload_n 2, 1) := dk_28 (dk_at dksX2_gate_0 2 rfl rfl)
theorem dX2_gate_3 : decode cX2_gate 3 = .ok (.invokevirtual 66, 3) := dk_182 0 66 (dk_at dksX2_gate_0 3 rfl rfl)
theorem dX2_gate_6 : decode cX2_gate 6 = .ok (.iload_n 1, 1) := dk_27 (dk_at dksX2_gate_0 6 rfl rfl)
theorem dX2_gate_7 : decode cX2_gate 7 = .ok (.iload_n 2, 1) := dk_28 (dk_at dksX2_gate_0 7 rfl rfl)
theorem dX2_gate_8 : decode cX2_gate 8 = .ok (.invokestatic 70, 3) := dk_184 0 70 (dk_at dksX2_gate_0 8 rfl rfl)
theorem dX2_gate_11 : decode cX2_gate 11 = .ok (.iaload, 1) := dk_46 (dk_at dksX2_gate_0 11 rfl rfl)
theorem dX2_gate_12 : decode cX2_gate 12 = .ok (.ireturn, 1) := dk_172 (dk_at dksX2_gate_0 12 rfl rfl)
abbrev cX2_gates : ByteArray := prog_8_method_5_code
def yX2_gates : MethodName := ⟨RX2, "gates", "(II)[I"⟩
def dkwX2_gates_1 : List UInt8 := [160, 0, 10, 42, 180, 0, 15, 167, 0, 7, 42, 180, 0, 18, 176]
abbrev dktX2_gates_1 : List UInt8 := dkwX2_gates_1 ++ []
def dkwX2_gates_0 : List UInt8 := [27, 28, 100, 184, 0, 60, 4, 160, 0, 25, 27, 42, 180, 0, 31, 108, 28, 42, 180, 0, 31, 108]
abbrev dktX2_gates_0 : List UInt8 := dkwX2_gates_0 ++ dktX2_gates_1
theorem dksX2_gates_0 : cX2_gates.data.toList.drop 0 = dktX2_gates_0 := by decide +kernel
theorem dksX2_gates_1 : cX2_gates.data.toList.drop 22 = dktX2_gates_1 := dk_seg dksX2_gates_0 22 rfl rfl
theorem dX2_gates_0 : decode cX2_gates 0 = .ok (.iload_n 1, 1) := dk_27 (dk_at dksX2_gates_0 0 rfl rfl)
theorem dX2_gates_1 : decode cX2_gates 1 = .ok (.iload_n 2, 1) := dk_28 (dk_at dksX2_gates_0 1 rfl rfl)
theorem dX2_gates_2 : decode cX2_gates 2 = .ok (.isub, 1) := dk_100 (dk_at dksX2_gates_0 2 rfl rfl)
theorem dX2_gates_3 : decode cX2_gates 3 = .ok (.invokestatic 60, 3) := dk_184 0 60 (dk_at dksX2_gates_0 3 rfl rfl)
theorem dX2_gates_6 : decode cX2_gates 6 = .ok (.iconst 1, 1) := dk_4 (dk_at dksX2_gates_0 6 rfl rfl)
theorem dX2_gates_7 : decode cX2_gates 7 = .ok (.if_icmp .ne 25, 3) := dk_160 0 25 (dk_at dksX2_gates_0 7 rfl rfl)
theorem dX2_gates_10 : decode cX2_gates 10 = .ok (.iload_n 1, 1) := dk_27 (dk_at dksX2_gates_0 10 rfl rfl)
theorem dX2_gates_11 : decode cX2_gates 11 = .ok (.aload_n 0, 1) := dk_42 (dk_at dksX2_gates_0 11 rfl rfl)
theorem dX2_gates_12 : decode cX2_gates 12 = .ok (.getfield 31, 3) := dk_180 0 31 (dk_at dksX2_gates_0 12 rfl rfl)
theorem dX2_gates_15 : decode cX2_gates 15 = .ok (.idiv, 1) := dk_108 (dk_at dksX2_gates_0 15 rfl rfl)
theorem dX2_gates_16 : decode cX2_gates 16 = .ok (.iload_n 2, 1) := dk_28 (dk_at dksX2_gates_0 16 rfl rfl)
theorem dX2_gates_17 : decode cX2_gates 17 = .ok (.aload_n 0, 1) := dk_42 (dk_at dksX2_gates_0 17 rfl rfl)
theorem dX2_gates_18 : decode cX2_gates 18 = .ok (.getfield 31, 3) := dk_180 0 31 (dk_at dksX2_gates_0 18 rfl rfl)
theorem dX2_gates_21 : decode cX2_gates 21 = .ok (.idiv, 1) := dk_108 (dk_at dksX2_gates_0 21 rfl rfl)
theorem dX2_gates_22 : decode cX2_gates 22 = .ok (.if_icmp .ne 10, 3) := dk_160 0 10 (dk_at dksX2_gates_1 0 rfl rfl)
theorem dX2_gates_25 : decode cX2_gates 25 = .ok (.aload_n 0, 1) := dk_42 (dk_at dksX2_gates_1 3 rfl rfl)
theorem dX2_gates_26 : decode cX2_gates 26 = .ok (.getfield 15, 3) := dk_180 0 15 (dk_at dksX2_gates_1 4 rfl rfl)
theorem dX2_gates_29 : decode cX2_gates 29 = .ok (.goto 7, 3) := dk_167 0 7 (dk_at dksX2_gates_1 7 rfl rfl)
theorem dX2_gates_32 : decode cX2_gates 32 = .ok (.aload_n 0, 1) := dk_42 (dk_at dksX2_gates_1 10 rfl rfl)
theorem dX2_gates_33 : decode cX2_gates 33 = .ok (.getfield 18, 3) := dk_180 0 18 (dk_at dksX2_gates_1 11 rfl rfl)
theorem dX2_gates_36 : decode cX2_gates 36 = .ok (.areturn, 1) := dk_176 (dk_at dksX2_gates_1 14 rfl rfl)
abbrev cX2_nextOf : ByteArray := prog_8_method_12_code
def yX2_nextOf : MethodName := ⟨RX2, "nextOf", "(J)I"⟩
def dkwX2_nextOf_1 : List UInt8 := [159, 0, 9, 42, 29, 182, 0, 122, 172, 132, 3, 1, 167, 255, 222, 2, 172]
abbrev dktX2_nextOf_1 : List UInt8 := dkwX2_nextOf_1 ++ []
def dkwX2_nextOf_0 : List UInt8 := [3, 62, 29, 42, 182, 0, 112, 162, 0, 32, 31, 29, 184, 0, 115, 153, 0, 18, 42, 29, 182, 0, 122, 2]
abbrev dktX2_nextOf_0 : List UInt8 := dkwX2_nextOf_0 ++ dktX2_nextOf_1
theorem dksX2_nextOf_0 : cX2_nextOf.data.toList.drop 0 = dktX2_nextOf_0 := by decide +kernel
theorem dksX2_nextOf_1 : cX2_nextOf.data.toList.drop 24 = dktX2_nextOf_1 := dk_seg dksX2_nextOf_0 24 rfl rfl
theorem dX2_nextOf_0 : decode cX2_nextOf 0 = .ok (.iconst 0, 1) := dk_3 (dk_at dksX2_nextOf_0 0 rfl rfl)
theorem dX2_nextOf_1 : decode cX2_nextOf 1 = .ok (.istore_n 3, 1) := dk_62 (dk_at dksX2_nextOf_0 1 rfl rfl)
theorem dX2_nextOf_2 : decode cX2_nextOf 2 = .ok (.iload_n 3, 1) := dk_29 (dk_at dksX2_nextOf_0 2 rfl rfl)
theorem dX2_nextOf_3 : decode cX2_nextOf 3 = .ok (.aload_n 0, 1) := dk_42 (dk_at dksX2_nextOf_0 3 rfl rfl)
theorem dX2_nextOf_4 : decode cX2_nextOf 4 = .ok (.invokevirtual 112, 3) := dk_182 0 112 (dk_at dksX2_nextOf_0 4 rfl rfl)
theorem dX2_nextOf_7 : decode cX2_nextOf 7 = .ok (.if_icmp .ge 32, 3) := dk_162 0 32 (dk_at dksX2_nextOf_0 7 rfl rfl)
theorem dX2_nextOf_10 : decode cX2_nextOf 10 = .ok (.lload_n 1, 1) := dk_31 (dk_at dksX2_nextOf_0 10 rfl rfl)
theorem dX2_nextOf_11 : decode cX2_nextOf 11 = .ok (.iload_n 3, 1) := dk_29 (dk_at dksX2_nextOf_0 11 rfl rfl)
theorem dX2_nextOf_12 : decode cX2_nextOf 12 = .ok (.invokestatic 115, 3) := dk_184 0 115 (dk_at dksX2_nextOf_0 12 rfl rfl)
theorem dX2_nextOf_15 : decode cX2_nextOf 15 = .ok (.ifCond .eq 18, 3) := dk_153 0 18 (dk_at dksX2_nextOf_0 15 rfl rfl)
theorem dX2_nextOf_18 : decode cX2_nextOf 18 = .ok (.aload_n 0, 1) := dk_42 (dk_at dksX2_nextOf_0 18 rfl rfl)
theorem dX2_nextOf_19 : decode cX2_nextOf 19 = .ok (.iload_n 3, 1) := dk_29 (dk_at dksX2_nextOf_0 19 rfl rfl)
theorem dX2_nextOf_20 : decode cX2_nextOf 20 = .ok (.invokevirtual 122, 3) := dk_182 0 122 (dk_at dksX2_nextOf_0 20 rfl rfl)
theorem dX2_nextOf_23 : decode cX2_nextOf 23 = .ok (.iconst (-1), 1) := dk_2 (dk_at dksX2_nextOf_0 23 rfl rfl)
theorem dX2_nextOf_24 : decode cX2_nextOf 24 = .ok (.if_icmp .eq 9, 3) := dk_159 0 9 (dk_at dksX2_nextOf_1 0 rfl rfl)
theorem dX2_nextOf_27 : decode cX2_nextOf 27 = .ok (.aload_n 0, 1) := dk_42 (dk_at dksX2_nextOf_1 3 rfl rfl)
theorem dX2_nextOf_28 : decode cX2_nextOf 28 = .ok (.iload_n 3, 1) := dk_29 (dk_at dksX2_nextOf_1 4 rfl rfl)
theorem dX2_nextOf_29 : decode cX2_nextOf 29 = .ok (.invokevirtual 122, 3) := dk_182 0 122 (dk_at dksX2_nextOf_1 5 rfl rfl)
theorem dX2_nextOf_32 : decode cX2_nextOf 32 = .ok (.ireturn, 1) := dk_172 (dk_at dksX2_nextOf_1 8 rfl rfl)
theorem dX2_nextOf_33 : decode cX2_nextOf 33 = .ok (.iinc 3 1, 3) := dk_132 3 1 (dk_at dksX2_nextOf_1 9 rfl rfl)
theorem dX2_nextOf_36 : decode cX2_nextOf 36 = .ok (.goto (-34), 3) := dk_167 255 222 (dk_at dksX2_nextOf_1 12 rfl rfl)
theorem dX2_nextOf_39 : decode cX2_nextOf 39 = .ok (.iconst (-1), 1) := dk_2 (dk_at dksX2_nextOf_1 15 rfl rfl)
theorem dX2_nextOf_40 : decode cX2_nextOf 40 = .ok (.ireturn, 1) := dk_172 (dk_at dksX2_nextOf_1 16 rfl rfl)
abbrev cX2_below : ByteArray := prog_8_method_11_code
def yX2_below : MethodName := ⟨RX2, "below", "(I)I"⟩
def dkwX2_below_3 : List UInt8 := [28, 61, 132, 3, 1, 167, 255, 183, 28, 172]
abbrev dktX2_below_3 : List UInt8 := dkwX2_below_3 ++ []
def dkwX2_below_2 : List UInt8 := [42, 180, 0, 9, 29, 46, 42, 180, 0, 9, 27, 46, 162, 0, 12, 21, 4, 153, 0, 7, 29, 167, 0, 4]
abbrev dktX2_below_2 : List UInt8 := dkwX2_below_2 ++ dktX2_below_3
def dkwX2_below_1 : List UInt8 := [180, 0, 9, 28, 46, 162, 0, 7, 4, 167, 0, 4, 3, 54, 4, 42, 27, 29, 182, 0, 119, 153, 0, 27]
abbrev dktX2_below_1 : List UInt8 := dkwX2_below_1 ++ dktX2_below_2
def dkwX2_below_0 : List UInt8 := [2, 61, 3, 62, 29, 42, 182, 0, 112, 162, 0, 71, 28, 2, 159, 0, 18, 42, 180, 0, 9, 29, 46, 42]
abbrev dktX2_below_0 : List UInt8 := dkwX2_below_0 ++ dktX2_below_1
theorem dksX2_below_0 : cX2_below.data.toList.drop 0 = dktX2_below_0 := by decide +kernel
theorem dksX2_below_1 : cX2_below.data.toList.drop 24 = dktX2_below_1 := dk_seg dksX2_below_0 24 rfl rfl
theorem dksX2_below_2 : cX2_below.data.toList.drop 48 = dktX2_below_2 := dk_seg dksX2_below_1 24 rfl rfl
theorem dksX2_below_3 : cX2_below.data.toList.drop 72 = dktX2_below_3 := dk_seg dksX2_below_2 24 rfl rfl
theorem dX2_below_0 : decode cX2_below 0 = .ok (.iconst (-1), 1) := dk_2 (dk_at dksX2_below_0 0 rfl rfl)
theorem dX2_below_1 : decode cX2_below 1 = .ok (.istore_n 2, 1) := dk_61 (dk_at dksX2_below_0 1 rfl rfl)
theorem dX2_below_2 : decode cX2_below 2 = .ok (.iconst 0, 1) := dk_3 (dk_at dksX2_below_0 2 rfl rfl)
theorem dX2_below_3 : decode cX2_below 3 = .ok (.istore_n 3, 1) := dk_62 (dk_at dksX2_below_0 3 rfl rfl)
theorem dX2_below_4 : decode cX2_below 4 = .ok (.iload_n 3, 1) := dk_29 (dk_at dksX2_below_0 4 rfl rfl)
theorem dX2_below_5 : decode cX2_below 5 = .ok (.aload_n 0, 1) := dk_42 (dk_at dksX2_below_0 5 rfl rfl)
theorem dX2_below_6 : decode cX2_below 6 = .ok (.invokevirtual 112, 3) := dk_182 0 112 (dk_at dksX2_below_0 6 rfl rfl)
theorem dX2_below_9 : decode cX2_below 9 = .ok (.if_icmp .ge 71, 3) := dk_162 0 71 (dk_at dksX2_below_0 9 rfl rfl)
theorem dX2_below_12 : decode cX2_below 12 = .ok (.iload_n 2, 1) := dk_28 (dk_at dksX2_below_0 12 rfl rfl)
theorem dX2_below_13 : decode cX2_below 13 = .ok (.iconst (-1), 1) := dk_2 (dk_at dksX2_below_0 13 rfl rfl)
theorem dX2_below_14 : decode cX2_below 14 = .ok (.if_icmp .eq 18, 3) := dk_159 0 18 (dk_at dksX2_below_0 14 rfl rfl)
theorem dX2_below_17 : decode cX2_below 17 = .ok (.aload_n 0, 1) := dk_42 (dk_at dksX2_below_0 17 rfl rfl)
theorem dX2_below_18 : decode cX2_below 18 = .ok (.getfield 9, 3) := dk_180 0 9 (dk_at dksX2_below_0 18 rfl rfl)
theorem dX2_below_21 : decode cX2_below 21 = .ok (.iload_n 3, 1) := dk_29 (dk_at dksX2_below_0 21 rfl rfl)
theorem dX2_below_22 : decode cX2_below 22 = .ok (.iaload, 1) := dk_46 (dk_at dksX2_below_0 22 rfl rfl)
theorem dX2_below_23 : decode cX2_below 23 = .ok (.aload_n 0, 1) := dk_42 (dk_at dksX2_below_0 23 rfl rfl)
theorem dX2_below_24 : decode cX2_below 24 = .ok (.getfield 9, 3) := dk_180 0 9 (dk_at dksX2_below_1 0 rfl rfl)
theorem dX2_below_27 : decode cX2_below 27 = .ok (.iload_n 2, 1) := dk_28 (dk_at dksX2_below_1 3 rfl rfl)
theorem dX2_below_28 : decode cX2_below 28 = .ok (.iaload, 1) := dk_46 (dk_at dksX2_below_1 4 rfl rfl)
theorem dX2_below_29 : decode cX2_below 29 = .ok (.if_icmp .ge 7, 3) := dk_162 0 7 (dk_at dksX2_below_1 5 rfl rfl)
theorem dX2_below_32 : decode cX2_below 32 = .ok (.iconst 1, 1) := dk_4 (dk_at dksX2_below_1 8 rfl rfl)
theorem dX2_below_33 : decode cX2_below 33 = .ok (.goto 4, 3) := dk_167 0 4 (dk_at dksX2_below_1 9 rfl rfl)
theorem dX2_below_36 : decode cX2_below 36 = .ok (.iconst 0, 1) := dk_3 (dk_at dksX2_below_1 12 rfl rfl)
theorem dX2_below_37 : decode cX2_below 37 = .ok (.istore 4, 2) := dk_54 4 (dk_at dksX2_below_1 13 rfl rfl)
theorem dX2_below_39 : decode cX2_below 39 = .ok (.aload_n 0, 1) := dk_42 (dk_at dksX2_below_1 15 rfl rfl)
theorem dX2_below_40 : decode cX2_below 40 = .ok (.iload_n 1, 1) := dk_27 (dk_at dksX2_below_1 16 rfl rfl)
theorem dX2_below_41 : decode cX2_below 41 = .ok (.iload_n 3, 1) := dk_29 (dk_at dksX2_below_1 17 rfl rfl)
theorem dX2_below_42 : decode cX2_below 42 = .ok (.invokevirtual 119, 3) := dk_182 0 119 (dk_at dksX2_below_1 18 rfl rfl)
theorem dX2_below_45 : decode cX2_below 45 = .ok (.ifCond .eq 27, 3) := dk_153 0 27 (dk_at dksX2_below_1 21 rfl rfl)
theorem dX2_below_48 : decode cX2_below 48 = .ok (.aload_n 0, 1) := dk_42 (dk_at dksX2_below_2 0 rfl rfl)
theorem dX2_below_49 : decode cX2_below 49 = .ok (.getfield 9, 3) := dk_180 0 9 (dk_at dksX2_below_2 1 rfl rfl)
theorem dX2_below_52 : decode cX2_below 52 = .ok (.iload_n 3, 1) := dk_29 (dk_at dksX2_below_2 4 rfl rfl)
theorem dX2_below_53 : decode cX2_below 53 = .ok (.iaload, 1) := dk_46 (dk_at dksX2_below_2 5 rfl rfl)
theorem dX2_below_54 : decode cX2_below 54 = .ok (.aload_n 0, 1) := dk_42 (dk_at dksX2_below_2 6 rfl rfl)
theorem dX2_below_55 : decode cX2_below 55 = .ok (.getfield 9, 3) := dk_180 0 9 (dk_at dksX2_below_2 7 rfl rfl)
theorem dX2_below_58 : decode cX2_below 58 = .ok (.iload_n 1, 1) := dk_27 (dk_at dksX2_below_2 10 rfl rfl)
theorem dX2_below_59 : decode cX2_below 59 = .ok (.iaload, 1) := dk_46 (dk_at dksX2_below_2 11 rfl rfl)
theorem dX2_below_60 : decode cX2_below 60 = .ok (.if_icmp .ge 12, 3) := dk_162 0 12 (dk_at dksX2_below_2 12 rfl rfl)
theorem dX2_below_63 : decode cX2_below 63 = .ok (.iload 4, 2) := dk_21 4 (dk_at dksX2_below_2 15 rfl rfl)
theorem dX2_below_65 : decode cX2_below 65 = .ok (.ifCond .eq 7, 3) := dk_153 0 7 (dk_at dksX2_below_2 17 rfl rfl)
theorem dX2_below_68 : decode cX2_below 68 = .ok (.iload_n 3, 1) := dk_29 (dk_at dksX2_below_2 20 rfl rfl)
theorem dX2_below_69 : decode cX2_below 69 = .ok (.goto 4, 3) := dk_167 0 4 (dk_at dksX2_below_2 21 rfl rfl)
theorem dX2_below_72 : decode cX2_below 72 = .ok (.iload_n 2, 1) := dk_28 (dk_at dksX2_below_3 0 rfl rfl)
theorem dX2_below_73 : decode cX2_below 73 = .ok (.istore_n 2, 1) := dk_61 (dk_at dksX2_below_3 1 rfl rfl)
theorem dX2_below_74 : decode cX2_below 74 = .ok (.iinc 3 1, 3) := dk_132 3 1 (dk_at dksX2_below_3 2 rfl rfl)
theorem dX2_below_77 : decode cX2_below 77 = .ok (.goto (-73), 3) := dk_167 255 183 (dk_at dksX2_below_3 5 rfl rfl)
theorem dX2_below_80 : decode cX2_below 80 = .ok (.iload_n 2, 1) := dk_28 (dk_at dksX2_below_3 8 rfl rfl)
theorem dX2_below_81 : decode cX2_below 81 = .ok (.ireturn, 1) := dk_172 (dk_at dksX2_below_3 9 rfl rfl)
abbrev cX2_isPit : ByteArray := prog_8_method_15_code
def yX2_isPit : MethodName := ⟨RX2, "isPit", "(I)Z"⟩
def dkwX2_isPit_1 : List UInt8 := [154, 0, 7, 4, 167, 0, 4, 3, 172]
abbrev dktX2_isPit_1 : List UInt8 := dkwX2_isPit_1 ++ []
def dkwX2_isPit_0 : List UInt8 := [42, 180, 0, 25, 27, 46, 2, 160, 0, 23, 42, 180, 0, 21, 27, 47, 42, 180, 0, 53, 127, 9, 148]
abbrev dktX2_isPit_0 : List UInt8 := dkwX2_isPit_0 ++ dktX2_isPit_1
theorem dksX2_isPit_0 : cX2_isPit.data.toList.drop 0 = dktX2_isPit_0 := by decide +kernel
theorem dksX2_isPit_1 : cX2_isPit.data.toList.drop 23 = dktX2_isPit_1 := dk_seg dksX2_isPit_0 23 rfl rfl
theorem dX2_isPit_0 : decode cX2_isPit 0 = .ok (.aload_n 0, 1) := dk_42 (dk_at dksX2_isPit_0 0 rfl rfl)
theorem dX2_isPit_1 : decode cX2_isPit 1 = .ok (.getfield 25, 3) := dk_180 0 25 (dk_at dksX2_isPit_0 1 rfl rfl)
theorem dX2_isPit_4 : decode cX2_isPit 4 = .ok (.iload_n 1, 1) := dk_27 (dk_at dksX2_isPit_0 4 rfl rfl)
theorem dX2_isPit_5 : decode cX2_isPit 5 = .ok (.iaload, 1) := dk_46 (dk_at dksX2_isPit_0 5 rfl rfl)
theorem dX2_isPit_6 : decode cX2_isPit 6 = .ok (.iconst (-1), 1) := dk_2 (dk_at dksX2_isPit_0 6 rfl rfl)
theorem dX2_isPit_7 : decode cX2_isPit 7 = .ok (.if_icmp .ne 23, 3) := dk_160 0 23 (dk_at dksX2_isPit_0 7 rfl rfl)
theorem dX2_isPit_10 : decode cX2_isPit 10 = .ok (.aload_n 0, 1) := dk_42 (dk_at dksX2_isPit_0 10 rfl rfl)
theorem dX2_isPit_11 : decode cX2_isPit 11 = .ok (.getfield 21, 3) := dk_180 0 21 (dk_at dksX2_isPit_0 11 rfl rfl)
theorem dX2_isPit_14 : decode cX2_isPit 14 = .ok (.iload_n 1, 1) := dk_27 (dk_at dksX2_isPit_0 14 rfl rfl)
theorem dX2_isPit_15 : decode cX2_isPit 15 = .ok (.laload, 1) := dk_47 (dk_at dksX2_isPit_0 15 rfl rfl)
theorem dX2_isPit_16 : decode cX2_isPit 16 = .ok (.aload_n 0, 1) := dk_42 (dk_at dksX2_isPit_0 16 rfl rfl)
theorem dX2_isPit_17 : decode cX2_isPit 17 = .ok (.getfield 53, 3) := dk_180 0 53 (dk_at dksX2_isPit_0 17 rfl rfl)
theorem dX2_isPit_20 : decode cX2_isPit 20 = .ok (.land, 1) := dk_127 (dk_at dksX2_isPit_0 20 rfl rfl)
theorem dX2_isPit_21 : decode cX2_isPit 21 = .ok (.lconst 0, 1) := dk_9 (dk_at dksX2_isPit_0 21 rfl rfl)
theorem dX2_isPit_22 : decode cX2_isPit 22 = .ok (.lcmp, 1) := dk_148 (dk_at dksX2_isPit_0 22 rfl rfl)
theorem dX2_isPit_23 : decode cX2_isPit 23 = .ok (.ifCond .ne 7, 3) := dk_154 0 7 (dk_at dksX2_isPit_1 0 rfl rfl)
theorem dX2_isPit_26 : decode cX2_isPit 26 = .ok (.iconst 1, 1) := dk_4 (dk_at dksX2_isPit_1 3 rfl rfl)
theorem dX2_isPit_27 : decode cX2_isPit 27 = .ok (.goto 4, 3) := dk_167 0 4 (dk_at dksX2_isPit_1 4 rfl rfl)
theorem dX2_isPit_30 : decode cX2_isPit 30 = .ok (.iconst 0, 1) := dk_3 (dk_at dksX2_isPit_1 7 rfl rfl)
theorem dX2_isPit_31 : decode cX2_isPit 31 = .ok (.ireturn, 1) := dk_172 (dk_at dksX2_isPit_1 8 rfl rfl)
abbrev cX2_end : ByteArray := prog_8_method_16_code
def yX2_end : MethodName := ⟨RX2, "end", "(I)I"⟩
def dkwX2_end_0 : List UInt8 := [27, 61, 42, 180, 0, 25, 28, 46, 2, 159, 0, 13, 42, 180, 0, 25, 28, 46, 61, 167, 255, 239, 28, 172]
abbrev dktX2_end_0 : List UInt8 := dkwX2_end_0 ++ []
theorem dksX2_end_0 : cX2_end.data.toList.drop 0 = dktX2_end_0 := by decide +kernel
theorem dX2_end_0 : decode cX2_end 0 = .ok (.iload_n 1, 1) := dk_27 (dk_at dksX2_end_0 0 rfl rfl)
theorem dX2_end_1 : decode cX2_end 1 = .ok (.istore_n 2, 1) := dk_61 (dk_at dksX2_end_0 1 rfl rfl)
theorem dX2_end_2 : decode cX2_end 2 = .ok (.aload_n 0, 1) := dk_42 (dk_at dksX2_end_0 2 rfl rfl)
theorem dX2_end_3 : decode cX2_end 3 = .ok (.getfield 25, 3) := dk_180 0 25 (dk_at dksX2_end_0 3 rfl rfl)
theorem dX2_end_6 : decode cX2_end 6 = .ok (.iload_n 2, 1) := dk_28 (dk_at dksX2_end_0 6 rfl rfl)
theorem dX2_end_7 : decode cX2_end 7 = .ok (.iaload, 1) := dk_46 (dk_at dksX2_end_0 7 rfl rfl)
theorem dX2_end_8 : decode cX2_end 8 = .ok (.iconst (-1), 1) := dk_2 (dk_at dksX2_end_0 8 rfl rfl)
theorem dX2_end_9 : decode cX2_end 9 = .ok (.if_icmp .eq 13, 3) := dk_159 0 13 (dk_at dksX2_end_0 9 rfl rfl)
theorem dX2_end_12 : decode cX2_end 12 = .ok (.aload_n 0, 1) := dk_42 (dk_at dksX2_end_0 12 rfl rfl)
theorem dX2_end_13 : decode cX2_end 13 = .ok (.getfield 25, 3) := dk_180 0 25 (dk_at dksX2_end_0 13 rfl rfl)
theorem dX2_end_16 : decode cX2_end 16 = .ok (.iload_n 2, 1) := dk_28 (dk_at dksX2_end_0 16 rfl rfl)
theorem dX2_end_17 : decode cX2_end 17 = .ok (.iaload, 1) := dk_46 (dk_at dksX2_end_0 17 rfl rfl)
theorem dX2_end_18 : decode cX2_end 18 = .ok (.istore_n 2, 1) := dk_61 (dk_at dksX2_end_0 18 rfl rfl)
theorem dX2_end_19 : decode cX2_end 19 = .ok (.goto (-17), 3) := dk_167 255 239 (dk_at dksX2_end_0 19 rfl rfl)
theorem dX2_end_22 : decode cX2_end 22 = .ok (.iload_n 2, 1) := dk_28 (dk_at dksX2_end_0 22 rfl rfl)
theorem dX2_end_23 : decode cX2_end 23 = .ok (.ireturn, 1) := dk_172 (dk_at dksX2_end_0 23 rfl rfl)
abbrev cX2_basinCells : ByteArray := prog_8_method_18_code
def yX2_basinCells : MethodName := ⟨RX2, "basinCells", "(I)J"⟩
def dkwX2_basinCells_1 : List UInt8 := [160, 0, 10, 10, 21, 4, 121, 167, 0, 4, 9, 129, 65, 132, 4, 1, 167, 255, 222, 32, 173]
abbrev dktX2_basinCells_1 : List UInt8 := dkwX2_basinCells_1 ++ []
def dkwX2_basinCells_0 : List UInt8 := [9, 65, 3, 54, 4, 21, 4, 42, 182, 0, 112, 162, 0, 31, 32, 42, 180, 0, 28, 21, 4, 46, 27]
abbrev dktX2_basinCells_0 : List UInt8 := dkwX2_basinCells_0 ++ dktX2_basinCells_1
theorem dksX2_basinCells_0 : cX2_basinCells.data.toList.drop 0 = dktX2_basinCells_0 := by decide +kernel
theorem dksX2_basinCells_1 : cX2_basinCells.data.toList.drop 23 = dktX2_basinCells_1 := dk_seg dksX2_basinCells_0 23 rfl rfl
theorem dX2_basinCells_0 : decode cX2_basinCells 0 = .ok (.lconst 0, 1) := dk_9 (dk_at dksX2_basinCells_0 0 rfl rfl)
theorem dX2_basinCells_1 : decode cX2_basinCells 1 = .ok (.lstore_n 2, 1) := dk_65 (dk_at dksX2_basinCells_0 1 rfl rfl)
theorem dX2_basinCells_2 : decode cX2_basinCells 2 = .ok (.iconst 0, 1) := dk_3 (dk_at dksX2_basinCells_0 2 rfl rfl)
theorem dX2_basinCells_3 : decode cX2_basinCells 3 = .ok (.istore 4, 2) := dk_54 4 (dk_at dksX2_basinCells_0 3 rfl rfl)
theorem dX2_basinCells_5 : decode cX2_basinCells 5 = .ok (.iload 4, 2) := dk_21 4 (dk_at dksX2_basinCells_0 5 rfl rfl)
theorem dX2_basinCells_7 : decode cX2_basinCells 7 = .ok (.aload_n 0, 1) := dk_42 (dk_at dksX2_basinCells_0 7 rfl rfl)
theorem dX2_basinCells_8 : decode cX2_basinCells 8 = .ok (.invokevirtual 112, 3) := dk_182 0 112 (dk_at dksX2_basinCells_0 8 rfl rfl)
theorem dX2_basinCells_11 : decode cX2_basinCells 11 = .ok (.if_icmp .ge 31, 3) := dk_162 0 31 (dk_at dksX2_basinCells_0 11 rfl rfl)
theorem dX2_basinCells_14 : decode cX2_basinCells 14 = .ok (.lload_n 2, 1) := dk_32 (dk_at dksX2_basinCells_0 14 rfl rfl)
theorem dX2_basinCells_15 : decode cX2_basinCells 15 = .ok (.aload_n 0, 1) := dk_42 (dk_at dksX2_basinCells_0 15 rfl rfl)
theorem dX2_basinCells_16 : decode cX2_basinCells 16 = .ok (.getfield 28, 3) := dk_180 0 28 (dk_at dksX2_basinCells_0 16 rfl rfl)
theorem dX2_basinCells_19 : decode cX2_basinCells 19 = .ok (.iload 4, 2) := dk_21 4 (dk_at dksX2_basinCells_0 19 rfl rfl)
theorem dX2_basinCells_21 : decode cX2_basinCells 21 = .ok (.iaload, 1) := dk_46 (dk_at dksX2_basinCells_0 21 rfl rfl)
theorem dX2_basinCells_22 : decode cX2_basinCells 22 = .ok (.iload_n 1, 1) := dk_27 (dk_at dksX2_basinCells_0 22 rfl rfl)
theorem dX2_basinCells_23 : decode cX2_basinCells 23 = .ok (.if_icmp .ne 10, 3) := dk_160 0 10 (dk_at dksX2_basinCells_1 0 rfl rfl)
theorem dX2_basinCells_26 : decode cX2_basinCells 26 = .ok (.lconst 1, 1) := dk_10 (dk_at dksX2_basinCells_1 3 rfl rfl)
theorem dX2_basinCells_27 : decode cX2_basinCells 27 = .ok (.iload 4, 2) := dk_21 4 (dk_at dksX2_basinCells_1 4 rfl rfl)
theorem dX2_basinCells_29 : decode cX2_basinCells 29 = .ok (.lshl, 1) := dk_121 (dk_at dksX2_basinCells_1 6 rfl rfl)
theorem dX2_basinCells_30 : decode cX2_basinCells 30 = .ok (.goto 4, 3) := dk_167 0 4 (dk_at dksX2_basinCells_1 7 rfl rfl)
theorem dX2_basinCells_33 : decode cX2_basinCells 33 = .ok (.lconst 0, 1) := dk_9 (dk_at dksX2_basinCells_1 10 rfl rfl)
theorem dX2_basinCells_34 : decode cX2_basinCells 34 = .ok (.lor, 1) := dk_129 (dk_at dksX2_basinCells_1 11 rfl rfl)
theorem dX2_basinCells_35 : decode cX2_basinCells 35 = .ok (.lstore_n 2, 1) := dk_65 (dk_at dksX2_basinCells_1 12 rfl rfl)
theorem dX2_basinCells_36 : decode cX2_basinCells 36 = .ok (.iinc 4 1, 3) := dk_132 4 1 (dk_at dksX2_basinCells_1 13 rfl rfl)
theorem dX2_basinCells_39 : decode cX2_basinCells 39 = .ok (.goto (-34), 3) := dk_167 255 222 (dk_at dksX2_basinCells_1 16 rfl rfl)
theorem dX2_basinCells_42 : decode cX2_basinCells 42 = .ok (.lload_n 2, 1) := dk_32 (dk_at dksX2_basinCells_1 19 rfl rfl)
theorem dX2_basinCells_43 : decode cX2_basinCells 43 = .ok (.lreturn, 1) := dk_173 (dk_at dksX2_basinCells_1 20 rfl rfl)
abbrev cX2_copy : ByteArray := prog_8_method_2_code
def yX2_copy : MethodName := ⟨RX2, "copy", "()LLakeLevels$Land;"⟩
def dkwX2_copy_5 : List UInt8 := [180, 0, 57, 181, 0, 57, 43, 176]
abbrev dktX2_copy_5 : List UInt8 := dkwX2_copy_5 ++ []
def dkwX2_copy_4 : List UInt8 := [3, 16, 36, 184, 0, 47, 42, 180, 0, 28, 3, 43, 180, 0, 28, 3, 16, 36, 184, 0, 47, 43, 42]
abbrev dktX2_copy_4 : List UInt8 := dkwX2_copy_4 ++ dktX2_copy_5
def dkwX2_copy_3 : List UInt8 := [42, 180, 0, 21, 3, 43, 180, 0, 21, 3, 16, 36, 184, 0, 47, 42, 180, 0, 25, 3, 43, 180, 0, 25]
abbrev dktX2_copy_3 : List UInt8 := dkwX2_copy_3 ++ dktX2_copy_4
def dkwX2_copy_2 : List UInt8 := [180, 0, 15, 3, 16, 36, 184, 0, 47, 42, 180, 0, 18, 3, 43, 180, 0, 18, 3, 16, 36, 184, 0, 47]
abbrev dktX2_copy_2 : List UInt8 := dkwX2_copy_2 ++ dktX2_copy_3
def dkwX2_copy_1 : List UInt8 := [180, 0, 9, 3, 16, 36, 184, 0, 47, 43, 42, 180, 0, 53, 181, 0, 53, 42, 180, 0, 15, 3, 43]
abbrev dktX2_copy_1 : List UInt8 := dkwX2_copy_1 ++ dktX2_copy_2
def dkwX2_copy_0 : List UInt8 := [187, 0, 10, 89, 42, 180, 0, 31, 42, 180, 0, 35, 183, 0, 44, 76, 42, 180, 0, 9, 3, 43]
abbrev dktX2_copy_0 : List UInt8 := dkwX2_copy_0 ++ dktX2_copy_1
theorem dksX2_copy_0 : cX2_copy.data.toList.drop 0 = dktX2_copy_0 := by decide +kernel
theorem dksX2_copy_1 : cX2_copy.data.toList.drop 22 = dktX2_copy_1 := dk_seg dksX2_copy_0 22 rfl rfl
theorem dksX2_copy_2 : cX2_copy.data.toList.drop 45 = dktX2_copy_2 := dk_seg dksX2_copy_1 23 rfl rfl
theorem dksX2_copy_3 : cX2_copy.data.toList.drop 69 = dktX2_copy_3 := dk_seg dksX2_copy_2 24 rfl rfl
theorem dksX2_copy_4 : cX2_copy.data.toList.drop 93 = dktX2_copy_4 := dk_seg dksX2_copy_3 24 rfl rfl
theorem dksX2_copy_5 : cX2_copy.data.toList.drop 116 = dktX2_copy_5 := dk_seg dksX2_copy_4 23 rfl rfl
theorem dX2_copy_0 : decode cX2_copy 0 = .ok (.new 10, 3) := dk_187 0 10 (dk_at dksX2_copy_0 0 rfl rfl)
theorem dX2_copy_3 : decode cX2_copy 3 = .ok (.dup, 1) := dk_89 (dk_at dksX2_copy_0 3 rfl rfl)
theorem dX2_copy_4 : decode cX2_copy 4 = .ok (.aload_n 0, 1) := dk_42 (dk_at dksX2_copy_0 4 rfl rfl)
theorem dX2_copy_5 : decode cX2_copy 5 = .ok (.getfield 31, 3) := dk_180 0 31 (dk_at dksX2_copy_0 5 rfl rfl)
theorem dX2_copy_8 : decode cX2_copy 8 = .ok (.aload_n 0, 1) := dk_42 (dk_at dksX2_copy_0 8 rfl rfl)
theorem dX2_copy_9 : decode cX2_copy 9 = .ok (.getfield 35, 3) := dk_180 0 35 (dk_at dksX2_copy_0 9 rfl rfl)
theorem dX2_copy_12 : decode cX2_copy 12 = .ok (.invokespecial 44, 3) := dk_183 0 44 (dk_at dksX2_copy_0 12 rfl rfl)
theorem dX2_copy_15 : decode cX2_copy 15 = .ok (.astore_n 1, 1) := dk_76 (dk_at dksX2_copy_0 15 rfl rfl)
theorem dX2_copy_16 : decode cX2_copy 16 = .ok (.aload_n 0, 1) := dk_42 (dk_at dksX2_copy_0 16 rfl rfl)
theorem dX2_copy_17 : decode cX2_copy 17 = .ok (.getfield 9, 3) := dk_180 0 9 (dk_at dksX2_copy_0 17 rfl rfl)
theorem dX2_copy_20 : decode cX2_copy 20 = .ok (.iconst 0, 1) := dk_3 (dk_at dksX2_copy_0 20 rfl rfl)
theorem dX2_copy_21 : decode cX2_copy 21 = .ok (.aload_n 1, 1) := dk_43 (dk_at dksX2_copy_0 21 rfl rfl)
theorem dX2_copy_22 : decode cX2_copy 22 = .ok (.getfield 9, 3) := dk_180 0 9 (dk_at dksX2_copy_1 0 rfl rfl)
theorem dX2_copy_25 : decode cX2_copy 25 = .ok (.iconst 0, 1) := dk_3 (dk_at dksX2_copy_1 3 rfl rfl)
theorem dX2_copy_26 : decode cX2_copy 26 = .ok (.bipush 36, 2) := dk_16 36 (dk_at dksX2_copy_1 4 rfl rfl)
theorem dX2_copy_28 : decode cX2_copy 28 = .ok (.invokestatic 47, 3) := dk_184 0 47 (dk_at dksX2_copy_1 6 rfl rfl)
theorem dX2_copy_31 : decode cX2_copy 31 = .ok (.aload_n 1, 1) := dk_43 (dk_at dksX2_copy_1 9 rfl rfl)
theorem dX2_copy_32 : decode cX2_copy 32 = .ok (.aload_n 0, 1) := dk_42 (dk_at dksX2_copy_1 10 rfl rfl)
theorem dX2_copy_33 : decode cX2_copy 33 = .ok (.getfield 53, 3) := dk_180 0 53 (dk_at dksX2_copy_1 11 rfl rfl)
theorem dX2_copy_36 : decode cX2_copy 36 = .ok (.putfield 53, 3) := dk_181 0 53 (dk_at dksX2_copy_1 14 rfl rfl)
theorem dX2_copy_39 : decode cX2_copy 39 = .ok (.aload_n 0, 1) := dk_42 (dk_at dksX2_copy_1 17 rfl rfl)
theorem dX2_copy_40 : decode cX2_copy 40 = .ok (.getfield 15, 3) := dk_180 0 15 (dk_at dksX2_copy_1 18 rfl rfl)
theorem dX2_copy_43 : decode cX2_copy 43 = .ok (.iconst 0, 1) := dk_3 (dk_at dksX2_copy_1 21 rfl rfl)
theorem dX2_copy_44 : decode cX2_copy 44 = .ok (.aload_n 1, 1) := dk_43 (dk_at dksX2_copy_1 22 rfl rfl)
theorem dX2_copy_45 : decode cX2_copy 45 = .ok (.getfield 15, 3) := dk_180 0 15 (dk_at dksX2_copy_2 0 rfl rfl)
theorem dX2_copy_48 : decode cX2_copy 48 = .ok (.iconst 0, 1) := dk_3 (dk_at dksX2_copy_2 3 rfl rfl)
theorem dX2_copy_49 : decode cX2_copy 49 = .ok (.bipush 36, 2) := dk_16 36 (dk_at dksX2_copy_2 4 rfl rfl)
theorem dX2_copy_51 : decode cX2_copy 51 = .ok (.invokestatic 47, 3) := dk_184 0 47 (dk_at dksX2_copy_2 6 rfl rfl)
theorem dX2_copy_54 : decode cX2_copy 54 = .ok (.aload_n 0, 1) := dk_42 (dk_at dksX2_copy_2 9 rfl rfl)
theorem dX2_copy_55 : decode cX2_copy 55 = .ok (.getfield 18, 3) := dk_180 0 18 (dk_at dksX2_copy_2 10 rfl rfl)
theorem dX2_copy_58 : decode cX2_copy 58 = .ok (.iconst 0, 1) := dk_3 (dk_at dksX2_copy_2 13 rfl rfl)
theorem dX2_copy_59 : decode cX2_copy 59 = .ok (.aload_n 1, 1) := dk_43 (dk_at dksX2_copy_2 14 rfl rfl)
theorem dX2_copy_60 : decode cX2_copy 60 = .ok (.getfield 18, 3) := dk_180 0 18 (dk_at dksX2_copy_2 15 rfl rfl)
theorem dX2_copy_63 : decode cX2_copy 63 = .ok (.iconst 0, 1) := dk_3 (dk_at dksX2_copy_2 18 rfl rfl)
theorem dX2_copy_64 : decode cX2_copy 64 = .ok (.bipush 36, 2) := dk_16 36 (dk_at dksX2_copy_2 19 rfl rfl)
theorem dX2_copy_66 : decode cX2_copy 66 = .ok (.invokestatic 47, 3) := dk_184 0 47 (dk_at dksX2_copy_2 21 rfl rfl)
theorem dX2_copy_69 : decode cX2_copy 69 = .ok (.aload_n 0, 1) := dk_42 (dk_at dksX2_copy_3 0 rfl rfl)
theorem dX2_copy_70 : decode cX2_copy 70 = .ok (.getfield 21, 3) := dk_180 0 21 (dk_at dksX2_copy_3 1 rfl rfl)
theorem dX2_copy_73 : decode cX2_copy 73 = .ok (.iconst 0, 1) := dk_3 (dk_at dksX2_copy_3 4 rfl rfl)
theorem dX2_copy_74 : decode cX2_copy 74 = .ok (.aload_n 1, 1) := dk_43 (dk_at dksX2_copy_3 5 rfl rfl)
theorem dX2_copy_75 : decode cX2_copy 75 = .ok (.getfield 21, 3) := dk_180 0 21 (dk_at dksX2_copy_3 6 rfl rfl)
theorem dX2_copy_78 : decode cX2_copy 78 = .ok (.iconst 0, 1) := dk_3 (dk_at dksX2_copy_3 9 rfl rfl)
theorem dX2_copy_79 : decode cX2_copy 79 = .ok (.bipush 36, 2) := dk_16 36 (dk_at dksX2_copy_3 10 rfl rfl)
theorem dX2_copy_81 : decode cX2_copy 81 = .ok (.invokestatic 47, 3) := dk_184 0 47 (dk_at dksX2_copy_3 12 rfl rfl)
theorem dX2_copy_84 : decode cX2_copy 84 = .ok (.aload_n 0, 1) := dk_42 (dk_at dksX2_copy_3 15 rfl rfl)
theorem dX2_copy_85 : decode cX2_copy 85 = .ok (.getfield 25, 3) := dk_180 0 25 (dk_at dksX2_copy_3 16 rfl rfl)
theorem dX2_copy_88 : decode cX2_copy 88 = .ok (.iconst 0, 1) := dk_3 (dk_at dksX2_copy_3 19 rfl rfl)
theorem dX2_copy_89 : decode cX2_copy 89 = .ok (.aload_n 1, 1) := dk_43 (dk_at dksX2_copy_3 20 rfl rfl)
theorem dX2_copy_90 : decode cX2_copy 90 = .ok (.getfield 25, 3) := dk_180 0 25 (dk_at dksX2_copy_3 21 rfl rfl)
theorem dX2_copy_93 : decode cX2_copy 93 = .ok (.iconst 0, 1) := dk_3 (dk_at dksX2_copy_4 0 rfl rfl)
theorem dX2_copy_94 : decode cX2_copy 94 = .ok (.bipush 36, 2) := dk_16 36 (dk_at dksX2_copy_4 1 rfl rfl)
theorem dX2_copy_96 : decode cX2_copy 96 = .ok (.invokestatic 47, 3) := dk_184 0 47 (dk_at dksX2_copy_4 3 rfl rfl)
theorem dX2_copy_99 : decode cX2_copy 99 = .ok (.aload_n 0, 1) := dk_42 (dk_at dksX2_copy_4 6 rfl rfl)
theorem dX2_copy_100 : decode cX2_copy 100 = .ok (.getfield 28, 3) := dk_180 0 28 (dk_at dksX2_copy_4 7 rfl rfl)
theorem dX2_copy_103 : decode cX2_copy 103 = .ok (.iconst 0, 1) := dk_3 (dk_at dksX2_copy_4 10 rfl rfl)
theorem dX2_copy_104 : decode cX2_copy 104 = .ok (.aload_n 1, 1) := dk_43 (dk_at dksX2_copy_4 11 rfl rfl)
theorem dX2_copy_105 : decode cX2_copy 105 = .ok (.getfield 28, 3) := dk_180 0 28 (dk_at dksX2_copy_4 12 rfl rfl)
theorem dX2_copy_108 : decode cX2_copy 108 = .ok (.iconst 0, 1) := dk_3 (dk_at dksX2_copy_4 15 rfl rfl)
theorem dX2_copy_109 : decode cX2_copy 109 = .ok (.bipush 36, 2) := dk_16 36 (dk_at dksX2_copy_4 16 rfl rfl)
theorem dX2_copy_111 : decode cX2_copy 111 = .ok (.invokestatic 47, 3) := dk_184 0 47 (dk_at dksX2_copy_4 18 rfl rfl)
theorem dX2_copy_114 : decode cX2_copy 114 = .ok (.aload_n 1, 1) := dk_43 (dk_at dksX2_copy_4 21 rfl rfl)
theorem dX2_copy_115 : decode cX2_copy 115 = .ok (.aload_n 0, 1) := dk_42 (dk_at dksX2_copy_4 22 rfl rfl)
theorem dX2_copy_116 : decode cX2_copy 116 = .ok (.getfield 57, 3) := dk_180 0 57 (dk_at dksX2_copy_5 0 rfl rfl)
theorem dX2_copy_119 : decode cX2_copy 119 = .ok (.putfield 57, 3) := dk_181 0 57 (dk_at dksX2_copy_5 3 rfl rfl)
theorem dX2_copy_122 : decode cX2_copy 122 = .ok (.aload_n 1, 1) := dk_43 (dk_at dksX2_copy_5 6 rfl rfl)
theorem dX2_copy_123 : decode cX2_copy 123 = .ok (.areturn, 1) := dk_176 (dk_at dksX2_copy_5 7 rfl rfl)
abbrev cX2_setGate : ByteArray := prog_8_method_7_code
def yX2_setGate : MethodName := ⟨RX2, "setGate", "(III)V"⟩
def dkwX2_setGate_0 : List UInt8 := [42, 27, 28, 182, 0, 66, 27, 28, 184, 0, 70, 29, 79, 177]
abbrev dktX2_setGate_0 : List UInt8 := dkwX2_setGate_0 ++ []
theorem dksX2_setGate_0 : cX2_setGate.data.toList.drop 0 = dktX2_setGate_0 := by decide +kernel
theorem dX2_setGate_0 : decode cX2_setGate 0 = .ok (.aload_n 0, 1) := dk_42 (dk_at dksX2_setGate_0 0 rfl rfl)
theorem dX2_setGate_1 : decode cX2_setGate 1 = .ok (.iload_n 1, 1) := dk_27 (dk_at dksX2_setGate_0 1 rfl rfl)
theorem dX2_setGate_2 : decode cX2_setGate 2 = .ok (.iload_n 2, 1) := dk_28 (dk_at dksX2_setGate_0 2 rfl rfl)
theorem dX2_setGate_3 : decode cX2_setGate 3 = .ok (.invokevirtual 66, 3) := dk_182 0 66 (dk_at dksX2_setGate_0 3 rfl rfl)
theorem dX2_setGate_6 : decode cX2_setGate 6 = .ok (.iload_n 1, 1) := dk_27 (dk_at dksX2_setGate_0 6 rfl rfl)
theorem dX2_setGate_7 : decode cX2_setGate 7 = .ok (.iload_n 2, 1) := dk_28 (dk_at dksX2_setGate_0 7 rfl rfl)
theorem dX2_setGate_8 : decode cX2_setGate 8 = .ok (.invokestatic 70, 3) := dk_184 0 70 (dk_at dksX2_setGate_0 8 rfl rfl)
theorem dX2_setGate_11 : decode cX2_setGate 11 = .ok (.iload_n 3, 1) := dk_29 (dk_at dksX2_setGate_0 11 rfl rfl)
theorem dX2_setGate_12 : decode cX2_setGate 12 = .ok (.iastore, 1) := dk_79 (dk_at dksX2_setGate_0 12 rfl rfl)
theorem dX2_setGate_13 : decode cX2_setGate 13 = .ok (.return_, 1) := dk_177 (dk_at dksX2_setGate_0 13 rfl rfl)
abbrev cX2_basinsIn : ByteArray := prog_8_method_19_code
def yX2_basinsIn : MethodName := ⟨RX2, "basinsIn", "(J)I"⟩
def dkwX2_basinsIn_1 : List UInt8 := [148, 153, 0, 7, 4, 167, 0, 4, 3, 96, 62, 132, 4, 1, 167, 255, 223, 29, 172]
abbrev dktX2_basinsIn_1 : List UInt8 := dkwX2_basinsIn_1 ++ []
def dkwX2_basinsIn_0 : List UInt8 := [3, 62, 3, 54, 4, 21, 4, 42, 180, 0, 57, 162, 0, 30, 29, 42, 21, 4, 182, 0, 146, 31, 127, 9]
abbrev dktX2_basinsIn_0 : List UInt8 := dkwX2_basinsIn_0 ++ dktX2_basinsIn_1
theorem dksX2_basinsIn_0 : cX2_basinsIn.data.toList.drop 0 = dktX2_basinsIn_0 := by decide +kernel
theorem dksX2_basinsIn_1 : cX2_basinsIn.data.toList.drop 24 = dktX2_basinsIn_1 := dk_seg dksX2_basinsIn_0 24 rfl rfl
theorem dX2_basinsIn_0 : decode cX2_basinsIn 0 = .ok (.iconst 0, 1) := dk_3 (dk_at dksX2_basinsIn_0 0 rfl rfl)
theorem dX2_basinsIn_1 : decode cX2_basinsIn 1 = .ok (.istore_n 3, 1) := dk_62 (dk_at dksX2_basinsIn_0 1 rfl rfl)
theorem dX2_basinsIn_2 : decode cX2_basinsIn 2 = .ok (.iconst 0, 1) := dk_3 (dk_at dksX2_basinsIn_0 2 rfl rfl)
theorem dX2_basinsIn_3 : decode cX2_basinsIn 3 = .ok (.istore 4, 2) := dk_54 4 (dk_at dksX2_basinsIn_0 3 rfl rfl)
theorem dX2_basinsIn_5 : decode cX2_basinsIn 5 = .ok (.iload 4, 2) := dk_21 4 (dk_at dksX2_basinsIn_0 5 rfl rfl)
theorem dX2_basinsIn_7 : decode cX2_basinsIn 7 = .ok (.aload_n 0, 1) := dk_42 (dk_at dksX2_basinsIn_0 7 rfl rfl)
theorem dX2_basinsIn_8 : decode cX2_basinsIn 8 = .ok (.getfield 57, 3) := dk_180 0 57 (dk_at dksX2_basinsIn_0 8 rfl rfl)
theorem dX2_basinsIn_11 : decode cX2_basinsIn 11 = .ok (.if_icmp .ge 30, 3) := dk_162 0 30 (dk_at dksX2_basinsIn_0 11 rfl rfl)
theorem dX2_basinsIn_14 : decode cX2_basinsIn 14 = .ok (.iload_n 3, 1) := dk_29 (dk_at dksX2_basinsIn_0 14 rfl rfl)
theorem dX2_basinsIn_15 : decode cX2_basinsIn 15 = .ok (.aload_n 0, 1) := dk_42 (dk_at dksX2_basinsIn_0 15 rfl rfl)
theorem dX2_basinsIn_16 : decode cX2_basinsIn 16 = .ok (.iload 4, 2) := dk_21 4 (dk_at dksX2_basinsIn_0 16 rfl rfl)
theorem dX2_basinsIn_18 : decode cX2_basinsIn 18 = .ok (.invokevirtual 146, 3) := dk_182 0 146 (dk_at dksX2_basinsIn_0 18 rfl rfl)
theorem dX2_basinsIn_21 : decode cX2_basinsIn 21 = .ok (.lload_n 1, 1) := dk_31 (dk_at dksX2_basinsIn_0 21 rfl rfl)
theorem dX2_basinsIn_22 : decode cX2_basinsIn 22 = .ok (.land, 1) := dk_127 (dk_at dksX2_basinsIn_0 22 rfl rfl)
theorem dX2_basinsIn_23 : decode cX2_basinsIn 23 = .ok (.lconst 0, 1) := dk_9 (dk_at dksX2_basinsIn_0 23 rfl rfl)
theorem dX2_basinsIn_24 : decode cX2_basinsIn 24 = .ok (.lcmp, 1) := dk_148 (dk_at dksX2_basinsIn_1 0 rfl rfl)
theorem dX2_basinsIn_25 : decode cX2_basinsIn 25 = .ok (.ifCond .eq 7, 3) := dk_153 0 7 (dk_at dksX2_basinsIn_1 1 rfl rfl)
theorem dX2_basinsIn_28 : decode cX2_basinsIn 28 = .ok (.iconst 1, 1) := dk_4 (dk_at dksX2_basinsIn_1 4 rfl rfl)
theorem dX2_basinsIn_29 : decode cX2_basinsIn 29 = .ok (.goto 4, 3) := dk_167 0 4 (dk_at dksX2_basinsIn_1 5 rfl rfl)
theorem dX2_basinsIn_32 : decode cX2_basinsIn 32 = .ok (.iconst 0, 1) := dk_3 (dk_at dksX2_basinsIn_1 8 rfl rfl)
theorem dX2_basinsIn_33 : decode cX2_basinsIn 33 = .ok (.iadd, 1) := dk_96 (dk_at dksX2_basinsIn_1 9 rfl rfl)
theorem dX2_basinsIn_34 : decode cX2_basinsIn 34 = .ok (.istore_n 3, 1) := dk_62 (dk_at dksX2_basinsIn_1 10 rfl rfl)
theorem dX2_basinsIn_35 : decode cX2_basinsIn 35 = .ok (.iinc 4 1, 3) := dk_132 4 1 (dk_at dksX2_basinsIn_1 11 rfl rfl)
theorem dX2_basinsIn_38 : decode cX2_basinsIn 38 = .ok (.goto (-33), 3) := dk_167 255 223 (dk_at dksX2_basinsIn_1 14 rfl rfl)
theorem dX2_basinsIn_41 : decode cX2_basinsIn 41 = .ok (.iload_n 3, 1) := dk_29 (dk_at dksX2_basinsIn_1 17 rfl rfl)
theorem dX2_basinsIn_42 : decode cX2_basinsIn 42 = .ok (.ireturn, 1) := dk_172 (dk_at dksX2_basinsIn_1 18 rfl rfl)
abbrev cX2_lowestPlace : ByteArray := prog_8_method_20_code
def yX2_lowestPlace : MethodName := ⟨RX2, "lowestPlace", "(J)I"⟩
def dkwX2_lowestPlace_3 : List UInt8 := [29, 172]
abbrev dktX2_lowestPlace_3 : List UInt8 := dkwX2_lowestPlace_3 ++ []
def dkwX2_lowestPlace_2 : List UInt8 := [184, 0, 115, 153, 0, 13, 21, 5, 153, 0, 8, 21, 4, 167, 0, 4, 29, 62, 132, 4, 1, 167, 255, 195]
abbrev dktX2_lowestPlace_2 : List UInt8 := dkwX2_lowestPlace_2 ++ dktX2_lowestPlace_3
def dkwX2_lowestPlace_1 : List UInt8 := [21, 4, 46, 42, 180, 0, 9, 29, 46, 162, 0, 7, 4, 167, 0, 4, 3, 54, 5, 31, 21, 4]
abbrev dktX2_lowestPlace_1 : List UInt8 := dkwX2_lowestPlace_1 ++ dktX2_lowestPlace_2
def dkwX2_lowestPlace_0 : List UInt8 := [2, 62, 3, 54, 4, 21, 4, 42, 182, 0, 112, 162, 0, 58, 29, 2, 159, 0, 19, 42, 180, 0, 9]
abbrev dktX2_lowestPlace_0 : List UInt8 := dkwX2_lowestPlace_0 ++ dktX2_lowestPlace_1
theorem dksX2_lowestPlace_0 : cX2_lowestPlace.data.toList.drop 0 = dktX2_lowestPlace_0 := by decide +kernel
theorem dksX2_lowestPlace_1 : cX2_lowestPlace.data.toList.drop 23 = dktX2_lowestPlace_1 := dk_seg dksX2_lowestPlace_0 23 rfl rfl
theorem dksX2_lowestPlace_2 : cX2_lowestPlace.data.toList.drop 45 = dktX2_lowestPlace_2 := dk_seg dksX2_lowestPlace_1 22 rfl rfl
theorem dksX2_lowestPlace_3 : cX2_lowestPlace.data.toList.drop 69 = dktX2_lowestPlace_3 := dk_seg dksX2_lowestPlace_2 24 rfl rfl
theorem dX2_lowestPlace_0 : decode cX2_lowestPlace 0 = .ok (.iconst (-1), 1) := dk_2 (dk_at dksX2_lowestPlace_0 0 rfl rfl)
theorem dX2_lowestPlace_1 : decode cX2_lowestPlace 1 = .ok (.istore_n 3, 1) := dk_62 (dk_at dksX2_lowestPlace_0 1 rfl rfl)
theorem dX2_lowestPlace_2 : decode cX2_lowestPlace 2 = .ok (.iconst 0, 1) := dk_3 (dk_at dksX2_lowestPlace_0 2 rfl rfl)
theorem dX2_lowestPlace_3 : decode cX2_lowestPlace 3 = .ok (.istore 4, 2) := dk_54 4 (dk_at dksX2_lowestPlace_0 3 rfl rfl)
theorem dX2_lowestPlace_5 : decode cX2_lowestPlace 5 = .ok (.iload 4, 2) := dk_21 4 (dk_at dksX2_lowestPlace_0 5 rfl rfl)
theorem dX2_lowestPlace_7 : decode cX2_lowestPlace 7 = .ok (.aload_n 0, 1) := dk_42 (dk_at dksX2_lowestPlace_0 7 rfl rfl)
theorem dX2_lowestPlace_8 : decode cX2_lowestPlace 8 = .ok (.invokevirtual 112, 3) := dk_182 0 112 (dk_at dksX2_lowestPlace_0 8 rfl rfl)
theorem dX2_lowestPlace_11 : decode cX2_lowestPlace 11 = .ok (.if_icmp .ge 58, 3) := dk_162 0 58 (dk_at dksX2_lowestPlace_0 11 rfl rfl)
theorem dX2_lowestPlace_14 : decode cX2_lowestPlace 14 = .ok (.iload_n 3, 1) := dk_29 (dk_at dksX2_lowestPlace_0 14 rfl rfl)
theorem dX2_lowestPlace_15 : decode cX2_lowestPlace 15 = .ok (.iconst (-1), 1) := dk_2 (dk_at dksX2_lowestPlace_0 15 rfl rfl)
theorem dX2_lowestPlace_16 : decode cX2_lowestPlace 16 = .ok (.if_icmp .eq 19, 3) := dk_159 0 19 (dk_at dksX2_lowestPlace_0 16 rfl rfl)
theorem dX2_lowestPlace_19 : decode cX2_lowestPlace 19 = .ok (.aload_n 0, 1) := dk_42 (dk_at dksX2_lowestPlace_0 19 rfl rfl)
theorem dX2_lowestPlace_20 : decode cX2_lowestPlace 20 = .ok (.getfield 9, 3) := dk_180 0 9 (dk_at dksX2_lowestPlace_0 20 rfl rfl)
theorem dX2_lowestPlace_23 : decode cX2_lowestPlace 23 = .ok (.iload 4, 2) := dk_21 4 (dk_at dksX2_lowestPlace_1 0 rfl rfl)
theorem dX2_lowestPlace_25 : decode cX2_lowestPlace 25 = .ok (.iaload, 1) := dk_46 (dk_at dksX2_lowestPlace_1 2 rfl rfl)
theorem dX2_lowestPlace_26 : decode cX2_lowestPlace 26 = .ok (.aload_n 0, 1) := dk_42 (dk_at dksX2_lowestPlace_1 3 rfl rfl)
theorem dX2_lowestPlace_27 : decode cX2_lowestPlace 27 = .ok (.getfield 9, 3) := dk_180 0 9 (dk_at dksX2_lowestPlace_1 4 rfl rfl)
theorem dX2_lowestPlace_30 : decode cX2_lowestPlace 30 = .ok (.iload_n 3, 1) := dk_29 (dk_at dksX2_lowestPlace_1 7 rfl rfl)
theorem dX2_lowestPlace_31 : decode cX2_lowestPlace 31 = .ok (.iaload, 1) := dk_46 (dk_at dksX2_lowestPlace_1 8 rfl rfl)
theorem dX2_lowestPlace_32 : decode cX2_lowestPlace 32 = .ok (.if_icmp .ge 7, 3) := dk_162 0 7 (dk_at dksX2_lowestPlace_1 9 rfl rfl)
theorem dX2_lowestPlace_35 : decode cX2_lowestPlace 35 = .ok (.iconst 1, 1) := dk_4 (dk_at dksX2_lowestPlace_1 12 rfl rfl)
theorem dX2_lowestPlace_36 : decode cX2_lowestPlace 36 = .ok (.goto 4, 3) := dk_167 0 4 (dk_at dksX2_lowestPlace_1 13 rfl rfl)
theorem dX2_lowestPlace_39 : decode cX2_lowestPlace 39 = .ok (.iconst 0, 1) := dk_3 (dk_at dksX2_lowestPlace_1 16 rfl rfl)
theorem dX2_lowestPlace_40 : decode cX2_lowestPlace 40 = .ok (.istore 5, 2) := dk_54 5 (dk_at dksX2_lowestPlace_1 17 rfl rfl)
theorem dX2_lowestPlace_42 : decode cX2_lowestPlace 42 = .ok (.lload_n 1, 1) := dk_31 (dk_at dksX2_lowestPlace_1 19 rfl rfl)
theorem dX2_lowestPlace_43 : decode cX2_lowestPlace 43 = .ok (.iload 4, 2) := dk_21 4 (dk_at dksX2_lowestPlace_1 20 rfl rfl)
theorem dX2_lowestPlace_45 : decode cX2_lowestPlace 45 = .ok (.invokestatic 115, 3) := dk_184 0 115 (dk_at dksX2_lowestPlace_2 0 rfl rfl)
theorem dX2_lowestPlace_48 : decode cX2_lowestPlace 48 = .ok (.ifCond .eq 13, 3) := dk_153 0 13 (dk_at dksX2_lowestPlace_2 3 rfl rfl)
theorem dX2_lowestPlace_51 : decode cX2_lowestPlace 51 = .ok (.iload 5, 2) := dk_21 5 (dk_at dksX2_lowestPlace_2 6 rfl rfl)
theorem dX2_lowestPlace_53 : decode cX2_lowestPlace 53 = .ok (.ifCond .eq 8, 3) := dk_153 0 8 (dk_at dksX2_lowestPlace_2 8 rfl rfl)
theorem dX2_lowestPlace_56 : decode cX2_lowestPlace 56 = .ok (.iload 4, 2) := dk_21 4 (dk_at dksX2_lowestPlace_2 11 rfl rfl)
theorem dX2_lowestPlace_58 : decode cX2_lowestPlace 58 = .ok (.goto 4, 3) := dk_167 0 4 (dk_at dksX2_lowestPlace_2 13 rfl rfl)
theorem dX2_lowestPlace_61 : decode cX2_lowestPlace 61 = .ok (.iload_n 3, 1) := dk_29 (dk_at dksX2_lowestPlace_2 16 rfl rfl)
theorem dX2_lowestPlace_62 : decode cX2_lowestPlace 62 = .ok (.istore_n 3, 1) := dk_62 (dk_at dksX2_lowestPlace_2 17 rfl rfl)
theorem dX2_lowestPlace_63 : decode cX2_lowestPlace 63 = .ok (.iinc 4 1, 3) := dk_132 4 1 (dk_at dksX2_lowestPlace_2 18 rfl rfl)
theorem dX2_lowestPlace_66 : decode cX2_lowestPlace 66 = .ok (.goto (-61), 3) := dk_167 255 195 (dk_at dksX2_lowestPlace_2 21 rfl rfl)
theorem dX2_lowestPlace_69 : decode cX2_lowestPlace 69 = .ok (.iload_n 3, 1) := dk_29 (dk_at dksX2_lowestPlace_3 0 rfl rfl)
theorem dX2_lowestPlace_70 : decode cX2_lowestPlace 70 = .ok (.ireturn, 1) := dk_172 (dk_at dksX2_lowestPlace_3 1 rfl rfl)
abbrev cX2_course : ByteArray := prog_8_method_17_code
def yX2_course : MethodName := ⟨RX2, "course", "(I)J"⟩
def dkwX2_course_1 : List UInt8 := [180, 0, 25, 21, 4, 46, 54, 4, 32, 42, 180, 0, 21, 21, 4, 47, 129, 65, 167, 255, 226, 32, 173]
abbrev dktX2_course_1 : List UInt8 := dkwX2_course_1 ++ []
def dkwX2_course_0 : List UInt8 := [42, 180, 0, 21, 27, 47, 65, 27, 54, 4, 42, 180, 0, 25, 21, 4, 46, 2, 159, 0, 25, 42]
abbrev dktX2_course_0 : List UInt8 := dkwX2_course_0 ++ dktX2_course_1
theorem dksX2_course_0 : cX2_course.data.toList.drop 0 = dktX2_course_0 := by decide +kernel
theorem dksX2_course_1 : cX2_course.data.toList.drop 22 = dktX2_course_1 := dk_seg dksX2_course_0 22 rfl rfl
theorem dX2_course_0 : decode cX2_course 0 = .ok (.aload_n 0, 1) := dk_42 (dk_at dksX2_course_0 0 rfl rfl)
theorem dX2_course_1 : decode cX2_course 1 = .ok (.getfield 21, 3) := dk_180 0 21 (dk_at dksX2_course_0 1 rfl rfl)
theorem dX2_course_4 : decode cX2_course 4 = .ok (.iload_n 1, 1) := dk_27 (dk_at dksX2_course_0 4 rfl rfl)
theorem dX2_course_5 : decode cX2_course 5 = .ok (.laload, 1) := dk_47 (dk_at dksX2_course_0 5 rfl rfl)
theorem dX2_course_6 : decode cX2_course 6 = .ok (.lstore_n 2, 1) := dk_65 (dk_at dksX2_course_0 6 rfl rfl)
theorem dX2_course_7 : decode cX2_course 7 = .ok (.iload_n 1, 1) := dk_27 (dk_at dksX2_course_0 7 rfl rfl)
theorem dX2_course_8 : decode cX2_course 8 = .ok (.istore 4, 2) := dk_54 4 (dk_at dksX2_course_0 8 rfl rfl)
theorem dX2_course_10 : decode cX2_course 10 = .ok (.aload_n 0, 1) := dk_42 (dk_at dksX2_course_0 10 rfl rfl)
theorem dX2_course_11 : decode cX2_course 11 = .ok (.getfield 25, 3) := dk_180 0 25 (dk_at dksX2_course_0 11 rfl rfl)
theorem dX2_course_14 : decode cX2_course 14 = .ok (.iload 4, 2) := dk_21 4 (dk_at dksX2_course_0 14 rfl rfl)
theorem dX2_course_16 : decode cX2_course 16 = .ok (.iaload, 1) := dk_46 (dk_at dksX2_course_0 16 rfl rfl)
theorem dX2_course_17 : decode cX2_course 17 = .ok (.iconst (-1), 1) := dk_2 (dk_at dksX2_course_0 17 rfl rfl)
theorem dX2_course_18 : decode cX2_course 18 = .ok (.if_icmp .eq 25, 3) := dk_159 0 25 (dk_at dksX2_course_0 18 rfl rfl)
theorem dX2_course_21 : decode cX2_course 21 = .ok (.aload_n 0, 1) := dk_42 (dk_at dksX2_course_0 21 rfl rfl)
theorem dX2_course_22 : decode cX2_course 22 = .ok (.getfield 25, 3) := dk_180 0 25 (dk_at dksX2_course_1 0 rfl rfl)
theorem dX2_course_25 : decode cX2_course 25 = .ok (.iload 4, 2) := dk_21 4 (dk_at dksX2_course_1 3 rfl rfl)
theorem dX2_course_27 : decode cX2_course 27 = .ok (.iaload, 1) := dk_46 (dk_at dksX2_course_1 5 rfl rfl)
theorem dX2_course_28 : decode cX2_course 28 = .ok (.istore 4, 2) := dk_54 4 (dk_at dksX2_course_1 6 rfl rfl)
theorem dX2_course_30 : decode cX2_course 30 = .ok (.lload_n 2, 1) := dk_32 (dk_at dksX2_course_1 8 rfl rfl)
theorem dX2_course_31 : decode cX2_course 31 = .ok (.aload_n 0, 1) := dk_42 (dk_at dksX2_course_1 9 rfl rfl)
theorem dX2_course_32 : decode cX2_course 32 = .ok (.getfield 21, 3) := dk_180 0 21 (dk_at dksX2_course_1 10 rfl rfl)
theorem dX2_course_35 : decode cX2_course 35 = .ok (.iload 4, 2) := dk_21 4 (dk_at dksX2_course_1 13 rfl rfl)
theorem dX2_course_37 : decode cX2_course 37 = .ok (.laload, 1) := dk_47 (dk_at dksX2_course_1 15 rfl rfl)
theorem dX2_course_38 : decode cX2_course 38 = .ok (.lor, 1) := dk_129 (dk_at dksX2_course_1 16 rfl rfl)
theorem dX2_course_39 : decode cX2_course 39 = .ok (.lstore_n 2, 1) := dk_65 (dk_at dksX2_course_1 17 rfl rfl)
theorem dX2_course_40 : decode cX2_course 40 = .ok (.goto (-30), 3) := dk_167 255 226 (dk_at dksX2_course_1 18 rfl rfl)
theorem dX2_course_43 : decode cX2_course 43 = .ok (.lload_n 2, 1) := dk_32 (dk_at dksX2_course_1 21 rfl rfl)
theorem dX2_course_44 : decode cX2_course 44 = .ok (.lreturn, 1) := dk_173 (dk_at dksX2_course_1 22 rfl rfl)
theorem q103 : (Jvm.Cond.initialized "LakeLevels$Land") ∈ lw_all := lw_g (lw_at lw_m1 2 rfl) rfl
theorem q158 : (Jvm.Cond.instantiable "LakeLevels$Land" (10 : Nat)) ∈ lw_all := lw_g (lw_at lw_m1 57 rfl) rfl
theorem q160 : (Jvm.Cond.instanceMethod ({ cls := "LakeLevels$Land", name := "<init>", desc := "(II)V" } : Jvm.MethodName)) ∈ lw_all := lw_g (lw_at lw_m1 59 rfl) rfl
theorem q161 : (Jvm.Cond.code ({ cls := "LakeLevels$Land", name := "<init>", desc := "(II)V" } : Jvm.MethodName) prog_8_method_1_code (3 : Nat) (Option.none : Option Jvm.ClassFile.FieldType)) ∈ lw_all := lw_g (lw_at lw_m1 60 rfl) rfl
theorem q162 : (Jvm.Cond.methodLink "LakeLevels$Land" (3 : Nat) ({ cls := "java/lang/Object", name := "<init>", desc := "()V" } : Jvm.MethodName)) ∈ lw_all := lw_g (lw_at lw_m1 61 rfl) rfl
theorem q163 : (Jvm.Cond.methodLink "LakeLevels$Land" (38 : Nat) ({ cls := "java/util/Arrays", name := "fill", desc := "([II)V" } : Jvm.MethodName)) ∈ lw_all := lw_g (lw_at lw_m1 62 rfl) rfl
theorem q166 : (Jvm.Cond.fieldLink "LakeLevels$Land" (31 : Nat) "LakeLevels$Land" "columns" "I") ∈ lw_all := lw_g (lw_at lw_m1 65 rfl) rfl
theorem q168 : (Jvm.Cond.fieldLink "LakeLevels$Land" (35 : Nat) "LakeLevels$Land" "rows" "I") ∈ lw_all := lw_g (lw_at lw_m1 67 rfl) rfl
theorem q170 : (Jvm.Cond.fieldLink "LakeLevels$Land" (9 : Nat) "LakeLevels$Land" "heights" "[I") ∈ lw_all := lw_g (lw_at lw_m1 69 rfl) rfl
theorem q178 : (Jvm.Cond.fieldLink "LakeLevels$Land" (53 : Nat) "LakeLevels$Land" "drains" "J") ∈ lw_all := lw_g (lw_at lw_m1 77 rfl) rfl
theorem q182 : (Jvm.Cond.fieldLink "LakeLevels$Land" (15 : Nat) "LakeLevels$Land" "gatesRight" "[I") ∈ lw_all := lw_g (lw_at lw_m1 81 rfl) rfl
theorem q183 : (Jvm.Cond.fieldLink "LakeLevels$Land" (18 : Nat) "LakeLevels$Land" "gatesDown" "[I") ∈ lw_all := lw_g (lw_at lw_m1 82 rfl) rfl
theorem q184 : (Jvm.Cond.fieldLink "LakeLevels$Land" (21 : Nat) "LakeLevels$Land" "plains" "[J") ∈ lw_all := lw_g (lw_at lw_m1 83 rfl) rfl
theorem q185 : (Jvm.Cond.fieldLink "LakeLevels$Land" (25 : Nat) "LakeLevels$Land" "nexts" "[I") ∈ lw_all := lw_g (lw_at lw_m1 84 rfl) rfl
theorem q186 : (Jvm.Cond.fieldLink "LakeLevels$Land" (28 : Nat) "LakeLevels$Land" "basins" "[I") ∈ lw_all := lw_g (lw_at lw_m1 85 rfl) rfl
theorem q188 : (Jvm.Cond.fieldLink "LakeLevels$Land" (57 : Nat) "LakeLevels$Land" "basinCount" "I") ∈ lw_all := lw_g (lw_at lw_m1 87 rfl) rfl
theorem q191 : (Jvm.Cond.laysFinal "LakeLevels$Land" "LakeLevels$Land" "columns" "I") ∈ lw_all := lw_g (lw_at lw_m1 90 rfl) rfl
theorem q192 : (Jvm.Cond.soleField "LakeLevels$Land" "columns") ∈ lw_all := lw_g (lw_at lw_m1 91 rfl) rfl
theorem q193 : (Jvm.Cond.laysFinal "LakeLevels$Land" "LakeLevels$Land" "rows" "I") ∈ lw_all := lw_g (lw_at lw_m1 92 rfl) rfl
theorem q194 : (Jvm.Cond.soleField "LakeLevels$Land" "rows") ∈ lw_all := lw_g (lw_at lw_m1 93 rfl) rfl
theorem q195 : (Jvm.Cond.laysFinal "LakeLevels$Land" "LakeLevels$Land" "heights" "[I") ∈ lw_all := lw_g (lw_at lw_m1 94 rfl) rfl
theorem q196 : (Jvm.Cond.soleField "LakeLevels$Land" "heights") ∈ lw_all := lw_g (lw_at lw_m1 95 rfl) rfl
theorem q197 : (Jvm.Cond.lays "LakeLevels$Land" "LakeLevels$Land" "drains" "J") ∈ lw_all := lw_g (lw_at lw_m1 96 rfl) rfl
theorem q198 : (Jvm.Cond.soleField "LakeLevels$Land" "drains") ∈ lw_all := lw_g (lw_at lw_m1 97 rfl) rfl
theorem q199 : (Jvm.Cond.laysFinal "LakeLevels$Land" "LakeLevels$Land" "gatesRight" "[I") ∈ lw_all := lw_g (lw_at lw_m1 98 rfl) rfl
theorem q200 : (Jvm.Cond.soleField "LakeLevels$Land" "gatesRight") ∈ lw_all := lw_g (lw_at lw_m1 99 rfl) rfl
theorem q201 : (Jvm.Cond.laysFinal "LakeLevels$Land" "LakeLevels$Land" "gatesDown" "[I") ∈ lw_all := lw_g (lw_at lw_m1 100 rfl) rfl
theorem q202 : (Jvm.Cond.soleField "LakeLevels$Land" "gatesDown") ∈ lw_all := lw_g (lw_at lw_m1 101 rfl) rfl
theorem q203 : (Jvm.Cond.laysFinal "LakeLevels$Land" "LakeLevels$Land" "plains" "[J") ∈ lw_all := lw_g (lw_at lw_m1 102 rfl) rfl
theorem q204 : (Jvm.Cond.soleField "LakeLevels$Land" "plains") ∈ lw_all := lw_g (lw_at lw_m1 103 rfl) rfl
theorem q205 : (Jvm.Cond.laysFinal "LakeLevels$Land" "LakeLevels$Land" "nexts" "[I") ∈ lw_all := lw_g (lw_at lw_m1 104 rfl) rfl
theorem q206 : (Jvm.Cond.soleField "LakeLevels$Land" "nexts") ∈ lw_all := lw_g (lw_at lw_m1 105 rfl) rfl
theorem q207 : (Jvm.Cond.laysFinal "LakeLevels$Land" "LakeLevels$Land" "basins" "[I") ∈ lw_all := lw_g (lw_at lw_m1 106 rfl) rfl
theorem q208 : (Jvm.Cond.soleField "LakeLevels$Land" "basins") ∈ lw_all := lw_g (lw_at lw_m1 107 rfl) rfl
theorem q209 : (Jvm.Cond.lays "LakeLevels$Land" "LakeLevels$Land" "basinCount" "I") ∈ lw_all := lw_g (lw_at lw_m1 108 rfl) rfl
theorem q210 : (Jvm.Cond.soleField "LakeLevels$Land" "basinCount") ∈ lw_all := lw_g (lw_at lw_m1 109 rfl) rfl
theorem q211 : (Jvm.Cond.superclass "LakeLevels$Land" "java/lang/Object") ∈ lw_all := lw_g (lw_at lw_m1 110 rfl) rfl
theorem q290 : (Jvm.Cond.instanceMethod ({ cls := "LakeLevels$Land", name := "find", desc := "()V" } : Jvm.MethodName)) ∈ lw_all := lw_g (lw_at lw_m1 189 rfl) rfl
theorem q291 : (Jvm.Cond.selects "LakeLevels$Land" ({ cls := "LakeLevels$Land", name := "find", desc := "()V" } : Jvm.MethodName) ({ cls := "LakeLevels$Land", name := "find", desc := "()V" } : Jvm.MethodName)) ∈ lw_all := lw_g (lw_at lw_m1 190 rfl) rfl
theorem q292 : (Jvm.Cond.code ({ cls := "LakeLevels$Land", name := "find", desc := "()V" } : Jvm.MethodName) prog_8_method_13_code (3 : Nat) (Option.none : Option Jvm.ClassFile.FieldType)) ∈ lw_all := lw_g (lw_at lw_m1 191 rfl) rfl
theorem q293 : (Jvm.Cond.methodLink "LakeLevels$Land" (112 : Nat) ({ cls := "LakeLevels$Land", name := "size", desc := "()I" } : Jvm.MethodName)) ∈ lw_all := lw_g (lw_at lw_m1 192 rfl) rfl
theorem q294 : (Jvm.Cond.instanceMethod ({ cls := "LakeLevels$Land", name := "size", desc := "()I" } : Jvm.MethodName)) ∈ lw_all := lw_g (lw_at lw_m1 193 rfl) rfl
theorem q295 : (Jvm.Cond.selects "LakeLevels$Land" ({ cls := "LakeLevels$Land", name := "size", desc := "()I" } : Jvm.MethodName) ({ cls := "LakeLevels$Land", name := "size", desc := "()I" } : Jvm.MethodName)) ∈ lw_all := lw_g (lw_at lw_m1 194 rfl) rfl
theorem q296 : (Jvm.Cond.code ({ cls := "LakeLevels$Land", name := "size", desc := "()I" } : Jvm.MethodName) prog_8_method_3_code (1 : Nat) (Option.some Jvm.ClassFile.FieldType.int)) ∈ lw_all := lw_g (lw_at lw_m1 195 rfl) rfl
theorem q297 : (Jvm.Cond.methodLink "LakeLevels$Land" (125 : Nat) ({ cls := "LakeLevels$Land", name := "plainBefore", desc := "(I)J" } : Jvm.MethodName)) ∈ lw_all := lw_g (lw_at lw_m1 196 rfl) rfl
theorem q298 : (Jvm.Cond.privateMethod ({ cls := "LakeLevels$Land", name := "plainBefore", desc := "(I)J" } : Jvm.MethodName)) ∈ lw_tbl := lw_at lw_m1 197 rfl
theorem q299 : (Jvm.Cond.instanceMethod ({ cls := "LakeLevels$Land", name := "plainBefore", desc := "(I)J" } : Jvm.MethodName)) ∈ lw_all := lw_g (lw_at lw_m1 198 rfl) rfl
theorem q300 : (Jvm.Cond.code ({ cls := "LakeLevels$Land", name := "plainBefore", desc := "(I)J" } : Jvm.MethodName) prog_8_method_14_code (5 : Nat) (Option.some Jvm.ClassFile.FieldType.long)) ∈ lw_all := lw_g (lw_at lw_m1 199 rfl) rfl
theorem q301 : (Jvm.Cond.methodLinkNest "LakeLevels$Land" (115 : Nat) ({ cls := "LakeLevels", name := "has", desc := "(JI)Z" } : Jvm.MethodName) "LakeLevels") ∈ lw_tbl := lw_at lw_m1 200 rfl
theorem q304 : (Jvm.Cond.methodLink "LakeLevels$Land" (129 : Nat) ({ cls := "LakeLevels$Land", name := "plainOf", desc := "(I)J" } : Jvm.MethodName)) ∈ lw_all := lw_g (lw_at lw_m1 203 rfl) rfl
theorem q305 : (Jvm.Cond.privateMethod ({ cls := "LakeLevels$Land", name := "plainOf", desc := "(I)J" } : Jvm.MethodName)) ∈ lw_tbl := lw_at lw_m1 204 rfl
theorem q306 : (Jvm.Cond.instanceMethod ({ cls := "LakeLevels$Land", name := "plainOf", desc := "(I)J" } : Jvm.MethodName)) ∈ lw_all := lw_g (lw_at lw_m1 205 rfl) rfl
theorem q307 : (Jvm.Cond.code ({ cls := "LakeLevels$Land", name := "plainOf", desc := "(I)J" } : Jvm.MethodName) prog_8_method_10_code (7 : Nat) (Option.some Jvm.ClassFile.FieldType.long)) ∈ lw_all := lw_g (lw_at lw_m1 206 rfl) rfl
theorem q308 : (Jvm.Cond.classLink "LakeLevels$Land" (87 : Nat) "java/util/ArrayDeque") ∈ lw_all := lw_g (lw_at lw_m1 207 rfl) rfl
theorem q310 : (Jvm.Cond.methodLink "LakeLevels$Land" (89 : Nat) ({ cls := "java/util/ArrayDeque", name := "<init>", desc := "()V" } : Jvm.MethodName)) ∈ lw_all := lw_g (lw_at lw_m1 209 rfl) rfl
theorem q326 : (Jvm.Cond.methodLink "LakeLevels$Land" (90 : Nat) ({ cls := "java/lang/Integer", name := "valueOf", desc := "(I)Ljava/lang/Integer;" } : Jvm.MethodName)) ∈ lw_all := lw_g (lw_at lw_m1 225 rfl) rfl
theorem q346 : (Jvm.Cond.methodLink "LakeLevels$Land" (96 : Nat) ({ cls := "java/util/ArrayDeque", name := "addLast", desc := "(Ljava/lang/Object;)V" } : Jvm.MethodName)) ∈ lw_all := lw_g (lw_at lw_m2 5 rfl) rfl
theorem q447 : (Jvm.Cond.selects "LakeLevels$Land" ({ cls := "java/lang/Object", name := "getClass", desc := "()Ljava/lang/Class;" } : Jvm.MethodName) ({ cls := "java/lang/Object", name := "getClass", desc := "()Ljava/lang/Class;" } : Jvm.MethodName)) ∈ lw_all := lw_g (lw_at lw_m2 106 rfl) rfl
theorem q482 : (Jvm.Cond.methodLink "LakeLevels$Land" (100 : Nat) ({ cls := "java/util/ArrayDeque", name := "isEmpty", desc := "()Z" } : Jvm.MethodName)) ∈ lw_all := lw_g (lw_at lw_m2 141 rfl) rfl
theorem q486 : (Jvm.Cond.methodLink "LakeLevels$Land" (104 : Nat) ({ cls := "java/util/ArrayDeque", name := "removeFirst", desc := "()Ljava/lang/Object;" } : Jvm.MethodName)) ∈ lw_all := lw_g (lw_at lw_m2 145 rfl) rfl
theorem q497 : (Jvm.Cond.classLink "LakeLevels$Land" (91 : Nat) "java/lang/Integer") ∈ lw_all := lw_g (lw_at lw_m2 156 rfl) rfl
theorem q498 : (Jvm.Cond.methodLink "LakeLevels$Land" (108 : Nat) ({ cls := "java/lang/Integer", name := "intValue", desc := "()I" } : Jvm.MethodName)) ∈ lw_all := lw_g (lw_at lw_m2 157 rfl) rfl
theorem q502 : (Jvm.Cond.methodLink "LakeLevels$Land" (119 : Nat) ({ cls := "LakeLevels$Land", name := "runs", desc := "(II)Z" } : Jvm.MethodName)) ∈ lw_all := lw_g (lw_at lw_m2 161 rfl) rfl
theorem q503 : (Jvm.Cond.privateMethod ({ cls := "LakeLevels$Land", name := "runs", desc := "(II)Z" } : Jvm.MethodName)) ∈ lw_tbl := lw_at lw_m2 162 rfl
theorem q504 : (Jvm.Cond.instanceMethod ({ cls := "LakeLevels$Land", name := "runs", desc := "(II)Z" } : Jvm.MethodName)) ∈ lw_all := lw_g (lw_at lw_m2 163 rfl) rfl
theorem q505 : (Jvm.Cond.code ({ cls := "LakeLevels$Land", name := "runs", desc := "(II)Z" } : Jvm.MethodName) prog_8_method_9_code (3 : Nat) (Option.some Jvm.ClassFile.FieldType.boolean)) ∈ lw_all := lw_g (lw_at lw_m2 164 rfl) rfl
theorem q506 : (Jvm.Cond.methodLink "LakeLevels$Land" (80 : Nat) ({ cls := "LakeLevels$Land", name := "areNeighbors", desc := "(II)Z" } : Jvm.MethodName)) ∈ lw_all := lw_g (lw_at lw_m2 165 rfl) rfl
theorem q507 : (Jvm.Cond.instanceMethod ({ cls := "LakeLevels$Land", name := "areNeighbors", desc := "(II)Z" } : Jvm.MethodName)) ∈ lw_all := lw_g (lw_at lw_m2 166 rfl) rfl
theorem q508 : (Jvm.Cond.selects "LakeLevels$Land" ({ cls := "LakeLevels$Land", name := "areNeighbors", desc := "(II)Z" } : Jvm.MethodName) ({ cls := "LakeLevels$Land", name := "areNeighbors", desc := "(II)Z" } : Jvm.MethodName)) ∈ lw_all := lw_g (lw_at lw_m2 167 rfl) rfl
theorem q509 : (Jvm.Cond.code ({ cls := "LakeLevels$Land", name := "areNeighbors", desc := "(II)Z" } : Jvm.MethodName) prog_8_method_4_code (4 : Nat) (Option.some Jvm.ClassFile.FieldType.boolean)) ∈ lw_all := lw_g (lw_at lw_m2 168 rfl) rfl
theorem q510 : (Jvm.Cond.methodLink "LakeLevels$Land" (60 : Nat) ({ cls := "java/lang/Math", name := "abs", desc := "(I)I" } : Jvm.MethodName)) ∈ lw_all := lw_g (lw_at lw_m2 169 rfl) rfl
theorem q513 : (Jvm.Cond.methodLink "LakeLevels$Land" (84 : Nat) ({ cls := "LakeLevels$Land", name := "threshold", desc := "(II)I" } : Jvm.MethodName)) ∈ lw_all := lw_g (lw_at lw_m2 172 rfl) rfl
theorem q514 : (Jvm.Cond.instanceMethod ({ cls := "LakeLevels$Land", name := "threshold", desc := "(II)I" } : Jvm.MethodName)) ∈ lw_all := lw_g (lw_at lw_m2 173 rfl) rfl
theorem q515 : (Jvm.Cond.selects "LakeLevels$Land" ({ cls := "LakeLevels$Land", name := "threshold", desc := "(II)I" } : Jvm.MethodName) ({ cls := "LakeLevels$Land", name := "threshold", desc := "(II)I" } : Jvm.MethodName)) ∈ lw_all := lw_g (lw_at lw_m2 174 rfl) rfl
theorem q516 : (Jvm.Cond.code ({ cls := "LakeLevels$Land", name := "threshold", desc := "(II)I" } : Jvm.MethodName) prog_8_method_8_code (3 : Nat) (Option.some Jvm.ClassFile.FieldType.int)) ∈ lw_all := lw_g (lw_at lw_m2 175 rfl) rfl
theorem q517 : (Jvm.Cond.methodLink "LakeLevels$Land" (74 : Nat) ({ cls := "java/lang/Math", name := "max", desc := "(II)I" } : Jvm.MethodName)) ∈ lw_all := lw_g (lw_at lw_m2 176 rfl) rfl
theorem q520 : (Jvm.Cond.methodLink "LakeLevels$Land" (77 : Nat) ({ cls := "LakeLevels$Land", name := "gate", desc := "(II)I" } : Jvm.MethodName)) ∈ lw_all := lw_g (lw_at lw_m2 179 rfl) rfl
theorem q521 : (Jvm.Cond.instanceMethod ({ cls := "LakeLevels$Land", name := "gate", desc := "(II)I" } : Jvm.MethodName)) ∈ lw_all := lw_g (lw_at lw_m2 180 rfl) rfl
theorem q522 : (Jvm.Cond.selects "LakeLevels$Land" ({ cls := "LakeLevels$Land", name := "gate", desc := "(II)I" } : Jvm.MethodName) ({ cls := "LakeLevels$Land", name := "gate", desc := "(II)I" } : Jvm.MethodName)) ∈ lw_all := lw_g (lw_at lw_m2 181 rfl) rfl
theorem q523 : (Jvm.Cond.code ({ cls := "LakeLevels$Land", name := "gate", desc := "(II)I" } : Jvm.MethodName) prog_8_method_6_code (3 : Nat) (Option.some Jvm.ClassFile.FieldType.int)) ∈ lw_all := lw_g (lw_at lw_m2 182 rfl) rfl
theorem q524 : (Jvm.Cond.methodLink "LakeLevels$Land" (66 : Nat) ({ cls := "LakeLevels$Land", name := "gates", desc := "(II)[I" } : Jvm.MethodName)) ∈ lw_all := lw_g (lw_at lw_m2 183 rfl) rfl
theorem q525 : (Jvm.Cond.privateMethod ({ cls := "LakeLevels$Land", name := "gates", desc := "(II)[I" } : Jvm.MethodName)) ∈ lw_tbl := lw_at lw_m2 184 rfl
theorem q526 : (Jvm.Cond.instanceMethod ({ cls := "LakeLevels$Land", name := "gates", desc := "(II)[I" } : Jvm.MethodName)) ∈ lw_all := lw_g (lw_at lw_m2 185 rfl) rfl
theorem q527 : (Jvm.Cond.code ({ cls := "LakeLevels$Land", name := "gates", desc := "(II)[I" } : Jvm.MethodName) prog_8_method_5_code (3 : Nat) (Option.some (Jvm.ClassFile.FieldType.array Jvm.ClassFile.FieldType.int))) ∈ lw_all := lw_g (lw_at lw_m2 186 rfl) rfl
theorem q528 : (Jvm.Cond.methodLink "LakeLevels$Land" (70 : Nat) ({ cls := "java/lang/Math", name := "min", desc := "(II)I" } : Jvm.MethodName)) ∈ lw_all := lw_g (lw_at lw_m2 187 rfl) rfl
theorem q529 : (Jvm.Cond.methodLink "LakeLevels$Land" (132 : Nat) ({ cls := "LakeLevels$Land", name := "nextOf", desc := "(J)I" } : Jvm.MethodName)) ∈ lw_all := lw_g (lw_at lw_m2 188 rfl) rfl
theorem q530 : (Jvm.Cond.privateMethod ({ cls := "LakeLevels$Land", name := "nextOf", desc := "(J)I" } : Jvm.MethodName)) ∈ lw_tbl := lw_at lw_m2 189 rfl
theorem q531 : (Jvm.Cond.instanceMethod ({ cls := "LakeLevels$Land", name := "nextOf", desc := "(J)I" } : Jvm.MethodName)) ∈ lw_all := lw_g (lw_at lw_m2 190 rfl) rfl
theorem q532 : (Jvm.Cond.code ({ cls := "LakeLevels$Land", name := "nextOf", desc := "(J)I" } : Jvm.MethodName) prog_8_method_12_code (4 : Nat) (Option.some Jvm.ClassFile.FieldType.int)) ∈ lw_all := lw_g (lw_at lw_m2 191 rfl) rfl
theorem q533 : (Jvm.Cond.methodLink "LakeLevels$Land" (122 : Nat) ({ cls := "LakeLevels$Land", name := "below", desc := "(I)I" } : Jvm.MethodName)) ∈ lw_all := lw_g (lw_at lw_m2 192 rfl) rfl
theorem q534 : (Jvm.Cond.privateMethod ({ cls := "LakeLevels$Land", name := "below", desc := "(I)I" } : Jvm.MethodName)) ∈ lw_tbl := lw_at lw_m2 193 rfl
theorem q535 : (Jvm.Cond.instanceMethod ({ cls := "LakeLevels$Land", name := "below", desc := "(I)I" } : Jvm.MethodName)) ∈ lw_all := lw_g (lw_at lw_m2 194 rfl) rfl
theorem q536 : (Jvm.Cond.code ({ cls := "LakeLevels$Land", name := "below", desc := "(I)I" } : Jvm.MethodName) prog_8_method_11_code (5 : Nat) (Option.some Jvm.ClassFile.FieldType.int)) ∈ lw_all := lw_g (lw_at lw_m2 195 rfl) rfl
theorem q537 : (Jvm.Cond.methodLink "LakeLevels$Land" (136 : Nat) ({ cls := "LakeLevels$Land", name := "isPit", desc := "(I)Z" } : Jvm.MethodName)) ∈ lw_all := lw_g (lw_at lw_m2 196 rfl) rfl
theorem q538 : (Jvm.Cond.instanceMethod ({ cls := "LakeLevels$Land", name := "isPit", desc := "(I)Z" } : Jvm.MethodName)) ∈ lw_all := lw_g (lw_at lw_m2 197 rfl) rfl
theorem q539 : (Jvm.Cond.selects "LakeLevels$Land" ({ cls := "LakeLevels$Land", name := "isPit", desc := "(I)Z" } : Jvm.MethodName) ({ cls := "LakeLevels$Land", name := "isPit", desc := "(I)Z" } : Jvm.MethodName)) ∈ lw_all := lw_g (lw_at lw_m2 198 rfl) rfl
theorem q540 : (Jvm.Cond.code ({ cls := "LakeLevels$Land", name := "isPit", desc := "(I)Z" } : Jvm.MethodName) prog_8_method_15_code (2 : Nat) (Option.some Jvm.ClassFile.FieldType.boolean)) ∈ lw_all := lw_g (lw_at lw_m2 199 rfl) rfl
theorem q541 : (Jvm.Cond.methodLinkNest "LakeLevels$Land" (140 : Nat) ({ cls := "LakeLevels", name := "lowest", desc := "(J)I" } : Jvm.MethodName) "LakeLevels") ∈ lw_tbl := lw_at lw_m2 200 rfl
theorem q551 : (Jvm.Cond.methodLink "LakeLevels$Land" (143 : Nat) ({ cls := "LakeLevels$Land", name := "end", desc := "(I)I" } : Jvm.MethodName)) ∈ lw_all := lw_g (lw_at lw_m2 210 rfl) rfl
theorem q552 : (Jvm.Cond.privateMethod ({ cls := "LakeLevels$Land", name := "end", desc := "(I)I" } : Jvm.MethodName)) ∈ lw_tbl := lw_at lw_m2 211 rfl
theorem q553 : (Jvm.Cond.instanceMethod ({ cls := "LakeLevels$Land", name := "end", desc := "(I)I" } : Jvm.MethodName)) ∈ lw_all := lw_g (lw_at lw_m2 212 rfl) rfl
theorem q554 : (Jvm.Cond.code ({ cls := "LakeLevels$Land", name := "end", desc := "(I)I" } : Jvm.MethodName) prog_8_method_16_code (3 : Nat) (Option.some Jvm.ClassFile.FieldType.int)) ∈ lw_all := lw_g (lw_at lw_m2 213 rfl) rfl
theorem q564 : (Jvm.Cond.instanceMethod ({ cls := "LakeLevels$Land", name := "basinCells", desc := "(I)J" } : Jvm.MethodName)) ∈ lw_all := lw_g (lw_at lw_m2 223 rfl) rfl
theorem q565 : (Jvm.Cond.selects "LakeLevels$Land" ({ cls := "LakeLevels$Land", name := "basinCells", desc := "(I)J" } : Jvm.MethodName) ({ cls := "LakeLevels$Land", name := "basinCells", desc := "(I)J" } : Jvm.MethodName)) ∈ lw_all := lw_g (lw_at lw_m2 224 rfl) rfl
theorem q566 : (Jvm.Cond.code ({ cls := "LakeLevels$Land", name := "basinCells", desc := "(I)J" } : Jvm.MethodName) prog_8_method_18_code (5 : Nat) (Option.some Jvm.ClassFile.FieldType.long)) ∈ lw_all := lw_g (lw_at lw_m2 225 rfl) rfl
theorem q1033 : (Jvm.Cond.instanceMethod ({ cls := "LakeLevels$Land", name := "copy", desc := "()LLakeLevels$Land;" } : Jvm.MethodName)) ∈ lw_all := lw_g (lw_at lw_m4 212 rfl) rfl
theorem q1034 : (Jvm.Cond.selects "LakeLevels$Land" ({ cls := "LakeLevels$Land", name := "copy", desc := "()LLakeLevels$Land;" } : Jvm.MethodName) ({ cls := "LakeLevels$Land", name := "copy", desc := "()LLakeLevels$Land;" } : Jvm.MethodName)) ∈ lw_all := lw_g (lw_at lw_m4 213 rfl) rfl
theorem q1035 : (Jvm.Cond.code ({ cls := "LakeLevels$Land", name := "copy", desc := "()LLakeLevels$Land;" } : Jvm.MethodName) prog_8_method_2_code (2 : Nat) (Option.some (Jvm.ClassFile.FieldType.object "LakeLevels$Land"))) ∈ lw_all := lw_g (lw_at lw_m4 214 rfl) rfl
theorem q1036 : (Jvm.Cond.classLink "LakeLevels$Land" (10 : Nat) "LakeLevels$Land") ∈ lw_all := lw_g (lw_at lw_m4 215 rfl) rfl
theorem q1037 : (Jvm.Cond.methodLink "LakeLevels$Land" (44 : Nat) ({ cls := "LakeLevels$Land", name := "<init>", desc := "(II)V" } : Jvm.MethodName)) ∈ lw_all := lw_g (lw_at lw_m4 216 rfl) rfl
theorem q1038 : (Jvm.Cond.methodLink "LakeLevels$Land" (47 : Nat) ({ cls := "java/lang/System", name := "arraycopy", desc := "(Ljava/lang/Object;ILjava/lang/Object;II)V" } : Jvm.MethodName)) ∈ lw_all := lw_g (lw_at lw_m4 217 rfl) rfl
theorem q1473 : (Jvm.Cond.instanceMethod ({ cls := "LakeLevels$Land", name := "setGate", desc := "(III)V" } : Jvm.MethodName)) ∈ lw_all := lw_g (lw_at lw_m6 172 rfl) rfl
theorem q1474 : (Jvm.Cond.selects "LakeLevels$Land" ({ cls := "LakeLevels$Land", name := "setGate", desc := "(III)V" } : Jvm.MethodName) ({ cls := "LakeLevels$Land", name := "setGate", desc := "(III)V" } : Jvm.MethodName)) ∈ lw_all := lw_g (lw_at lw_m6 173 rfl) rfl
theorem q1475 : (Jvm.Cond.code ({ cls := "LakeLevels$Land", name := "setGate", desc := "(III)V" } : Jvm.MethodName) prog_8_method_7_code (4 : Nat) (Option.none : Option Jvm.ClassFile.FieldType)) ∈ lw_all := lw_g (lw_at lw_m6 174 rfl) rfl
theorem q1537 : (Jvm.Cond.selects "LakeLevels$Land" ({ cls := "java/lang/Object", name := "equals", desc := "(Ljava/lang/Object;)Z" } : Jvm.MethodName) ({ cls := "java/lang/Object", name := "equals", desc := "(Ljava/lang/Object;)Z" } : Jvm.MethodName)) ∈ lw_all := lw_g (lw_at lw_m6 236 rfl) rfl
theorem q1578 : (Jvm.Cond.instanceMethod ({ cls := "LakeLevels$Land", name := "basinsIn", desc := "(J)I" } : Jvm.MethodName)) ∈ lw_all := lw_g (lw_at lw_m7 37 rfl) rfl
theorem q1579 : (Jvm.Cond.selects "LakeLevels$Land" ({ cls := "LakeLevels$Land", name := "basinsIn", desc := "(J)I" } : Jvm.MethodName) ({ cls := "LakeLevels$Land", name := "basinsIn", desc := "(J)I" } : Jvm.MethodName)) ∈ lw_all := lw_g (lw_at lw_m7 38 rfl) rfl
theorem q1580 : (Jvm.Cond.code ({ cls := "LakeLevels$Land", name := "basinsIn", desc := "(J)I" } : Jvm.MethodName) prog_8_method_19_code (5 : Nat) (Option.some Jvm.ClassFile.FieldType.int)) ∈ lw_all := lw_g (lw_at lw_m7 39 rfl) rfl
theorem q1581 : (Jvm.Cond.methodLink "LakeLevels$Land" (146 : Nat) ({ cls := "LakeLevels$Land", name := "basinCells", desc := "(I)J" } : Jvm.MethodName)) ∈ lw_all := lw_g (lw_at lw_m7 40 rfl) rfl
theorem q1728 : (Jvm.Cond.instanceMethod ({ cls := "LakeLevels$Land", name := "lowestPlace", desc := "(J)I" } : Jvm.MethodName)) ∈ lw_all := lw_g (lw_at lw_m7 187 rfl) rfl
theorem q1729 : (Jvm.Cond.selects "LakeLevels$Land" ({ cls := "LakeLevels$Land", name := "lowestPlace", desc := "(J)I" } : Jvm.MethodName) ({ cls := "LakeLevels$Land", name := "lowestPlace", desc := "(J)I" } : Jvm.MethodName)) ∈ lw_all := lw_g (lw_at lw_m7 188 rfl) rfl
theorem q1730 : (Jvm.Cond.code ({ cls := "LakeLevels$Land", name := "lowestPlace", desc := "(J)I" } : Jvm.MethodName) prog_8_method_20_code (6 : Nat) (Option.some Jvm.ClassFile.FieldType.int)) ∈ lw_all := lw_g (lw_at lw_m7 189 rfl) rfl
theorem q1996 : (Jvm.Cond.instanceMethod ({ cls := "LakeLevels$Land", name := "course", desc := "(I)J" } : Jvm.MethodName)) ∈ lw_all := lw_g (lw_at lw_m8 215 rfl) rfl
theorem q1997 : (Jvm.Cond.selects "LakeLevels$Land" ({ cls := "LakeLevels$Land", name := "course", desc := "(I)J" } : Jvm.MethodName) ({ cls := "LakeLevels$Land", name := "course", desc := "(I)J" } : Jvm.MethodName)) ∈ lw_all := lw_g (lw_at lw_m8 216 rfl) rfl
theorem q1998 : (Jvm.Cond.code ({ cls := "LakeLevels$Land", name := "course", desc := "(I)J" } : Jvm.MethodName) prog_8_method_17_code (5 : Nat) (Option.some Jvm.ClassFile.FieldType.long)) ∈ lw_all := lw_g (lw_at lw_m8 217 rfl) rfl
theorem q2525 : (Jvm.Cond.castable "LakeLevels$Land" "java/lang/Object") ∈ lw_tbl := lw_at lw_m11 24 rfl
theorem in_X2 : ∀ w ∈ wsX20, w ∈ lw_all := lw_in wsX20 [191, 193, 195, 197, 199, 201, 203, 205, 207, 209] (by decide +kernel) (by decide +kernel)

/-! LakeLevels$Lake -/
set_option maxRecDepth 100000
def RX4 : String := "LakeLevels$Lake"
def TX4 : u_T := fun k => match k with
  | 0 => ("LakeLevels$Lake", "cells", "J", true)
  | 1 => ("LakeLevels$Lake", "threshold", "I", false)
  | 2 => ("LakeLevels$Lake", "from", "I", false)
  | 3 => ("LakeLevels$Lake", "to", "I", false)
  | 4 => ("LakeLevels$Lake", "capacity", "I", false)
  | 5 => ("LakeLevels$Lake", "volume", "I", false)
  | 6 => ("LakeLevels$Lake", "first", "LLakeLevels$Lake;", true)
  | _ => ("LakeLevels$Lake", "second", "LLakeLevels$Lake;", true)
def tyX4 : Nat → FieldType := fun k => match k with
  | 0 => .long
  | 1 => .int
  | 2 => .int
  | 3 => .int
  | 4 => .int
  | 5 => .int
  | 6 => .object "LakeLevels$Lake"
  | _ => .object "LakeLevels$Lake"
abbrev wsX40 : List Cond := u_ws RX4 TX4 8
theorem nmX4 : ∀ a, a < 8 → ∀ b, b < 8 → a ≠ b → (TX4 a).2.1 ≠ (TX4 b).2.1 := by decide +kernel
theorem tyX4_ok : ∀ k, k < 8 → parseFieldDescriptor (TX4 k).2.2.1 = some (tyX4 k) := by decide +kernel
abbrev cX4_init : ByteArray := prog_7_method_1_code
def yX4_init : MethodName := ⟨RX4, "<init>", "(LLakeLevels$Land;J)V"⟩
def dkwX4_init_0 : List UInt8 := [42, 43, 32, 1, 1, 183, 0, 3, 177]
abbrev dktX4_init_0 : List UInt8 := dkwX4_init_0 ++ []
theorem dksX4_init_0 : cX4_init.data.toList.drop 0 = dktX4_init_0 := by decide +kernel
theorem dX4_init_0 : decode cX4_init 0 = .ok (.aload_n 0, 1) := dk_42 (dk_at dksX4_init_0 0 rfl rfl)
theorem dX4_init_1 : decode cX4_init 1 = .ok (.aload_n 1, 1) := dk_43 (dk_at dksX4_init_0 1 rfl rfl)
theorem dX4_init_2 : decode cX4_init 2 = .ok (.lload_n 2, 1) := dk_32 (dk_at dksX4_init_0 2 rfl rfl)
theorem dX4_init_3 : decode cX4_init 3 = .ok (.aconst_null, 1) := dk_1 (dk_at dksX4_init_0 3 rfl rfl)
theorem dX4_init_4 : decode cX4_init 4 = .ok (.aconst_null, 1) := dk_1 (dk_at dksX4_init_0 4 rfl rfl)
theorem dX4_init_5 : decode cX4_init 5 = .ok (.invokespecial 3, 3) := dk_183 0 3 (dk_at dksX4_init_0 5 rfl rfl)
theorem dX4_init_8 : decode cX4_init 8 = .ok (.return_, 1) := dk_177 (dk_at dksX4_init_0 8 rfl rfl)
abbrev cX4_init_2 : ByteArray := prog_7_method_2_code
def yX4_init_2 : MethodName := ⟨RX4, "<init>", "(LLakeLevels$Land;JLLakeLevels$Lake;LLakeLevels$Lake;)V"⟩
def dkwX4_init_2_1 : List UInt8 := [42, 32, 181, 0, 27, 42, 25, 4, 181, 0, 31, 42, 25, 5, 181, 0, 35, 42, 43, 182, 0, 38, 177]
abbrev dktX4_init_2_1 : List UInt8 := dkwX4_init_2_1 ++ []
def dkwX4_init_2_0 : List UInt8 := [42, 183, 0, 9, 42, 2, 181, 0, 14, 42, 2, 181, 0, 18, 42, 2, 181, 0, 21, 42, 2, 181, 0, 24]
abbrev dktX4_init_2_0 : List UInt8 := dkwX4_init_2_0 ++ dktX4_init_2_1
theorem dksX4_init_2_0 : cX4_init_2.data.toList.drop 0 = dktX4_init_2_0 := by decide +kernel
theorem dksX4_init_2_1 : cX4_init_2.data.toList.drop 24 = dktX4_init_2_1 := dk_seg dksX4_init_2_0 24 rfl rfl
theorem dX4_init_2_0 : decode cX4_init_2 0 = .ok (.aload_n 0, 1) := dk_42 (dk_at dksX4_init_2_0 0 rfl rfl)
theorem dX4_init_2_1 : decode cX4_init_2 1 = .ok (.invokespecial 9, 3) := dk_183 0 9 (dk_at dksX4_init_2_0 1 rfl rfl)
theorem dX4_init_2_4 : decode cX4_init_2 4 = .ok (.aload_n 0, 1) := dk_42 (dk_at dksX4_init_2_0 4 rfl rfl)
theorem dX4_init_2_5 : decode cX4_init_2 5 = .ok (.iconst (-1), 1) := dk_2 (dk_at dksX4_init_2_0 5 rfl rfl)
theorem dX4_init_2_6 : decode cX4_init_2 6 = .ok (.putfield 14, 3) := dk_181 0 14 (dk_at dksX4_init_2_0 6 rfl rfl)
theorem dX4_init_2_9 : decode cX4_init_2 9 = .ok (.aload_n 0, 1) := dk_42 (dk_at dksX4_init_2_0 9 rfl rfl)
theorem dX4_init_2_10 : decode cX4_init_2 10 = .ok (.iconst (-1), 1) := dk_2 (dk_at dksX4_init_2_0 10 rfl rfl)
theorem dX4_init_2_11 : decode cX4_init_2 11 = .ok (.putfield 18, 3) := dk_181 0 18 (dk_at dksX4_init_2_0 11 rfl rfl)
theorem dX4_init_2_14 : decode cX4_init_2 14 = .ok (.aload_n 0, 1) := dk_42 (dk_at dksX4_init_2_0 14 rfl rfl)
theorem dX4_init_2_15 : decode cX4_init_2 15 = .ok (.iconst (-1), 1) := dk_2 (dk_at dksX4_init_2_0 15 rfl rfl)
theorem dX4_init_2_16 : decode cX4_init_2 16 = .ok (.putfield 21, 3) := dk_181 0 21 (dk_at dksX4_init_2_0 16 rfl rfl)
theorem dX4_init_2_19 : decode cX4_init_2 19 = .ok (.aload_n 0, 1) := dk_42 (dk_at dksX4_init_2_0 19 rfl rfl)
theorem dX4_init_2_20 : decode cX4_init_2 20 = .ok (.iconst (-1), 1) := dk_2 (dk_at dksX4_init_2_0 20 rfl rfl)
theorem dX4_init_2_21 : decode cX4_init_2 21 = .ok (.putfield 24, 3) := dk_181 0 24 (dk_at dksX4_init_2_0 21 rfl rfl)
theorem dX4_init_2_24 : decode cX4_init_2 24 = .ok (.aload_n 0, 1) := dk_42 (dk_at dksX4_init_2_1 0 rfl rfl)
theorem dX4_init_2_25 : decode cX4_init_2 25 = .ok (.lload_n 2, 1) := dk_32 (dk_at dksX4_init_2_1 1 rfl rfl)
theorem dX4_init_2_26 : decode cX4_init_2 26 = .ok (.putfield 27, 3) := dk_181 0 27 (dk_at dksX4_init_2_1 2 rfl rfl)
theorem dX4_init_2_29 : decode cX4_init_2 29 = .ok (.aload_n 0, 1) := dk_42 (dk_at dksX4_init_2_1 5 rfl rfl)
theorem dX4_init_2_30 : decode cX4_init_2 30 = .ok (.aload 4, 2) := dk_25 4 (dk_at dksX4_init_2_1 6 rfl rfl)
theorem dX4_init_2_32 : decode cX4_init_2 32 = .ok (.putfield 31, 3) := dk_181 0 31 (dk_at dksX4_init_2_1 8 rfl rfl)
theorem dX4_init_2_35 : decode cX4_init_2 35 = .ok (.aload_n 0, 1) := dk_42 (dk_at dksX4_init_2_1 11 rfl rfl)
theorem dX4_init_2_36 : decode cX4_init_2 36 = .ok (.aload 5, 2) := dk_25 5 (dk_at dksX4_init_2_1 12 rfl rfl)
theorem dX4_init_2_38 : decode cX4_init_2 38 = .ok (.putfield 35, 3) := dk_181 0 35 (dk_at dksX4_init_2_1 14 rfl rfl)
theorem dX4_init_2_41 : decode cX4_init_2 41 = .ok (.aload_n 0, 1) := dk_42 (dk_at dksX4_init_2_1 17 rfl rfl)
theorem dX4_init_2_42 : decode cX4_init_2 42 = .ok (.aload_n 1, 1) := dk_43 (dk_at dksX4_init_2_1 18 rfl rfl)
theorem dX4_init_2_43 : decode cX4_init_2 43 = .ok (.invokevirtual 38, 3) := dk_182 0 38 (dk_at dksX4_init_2_1 19 rfl rfl)
theorem dX4_init_2_46 : decode cX4_init_2 46 = .ok (.return_, 1) := dk_177 (dk_at dksX4_init_2_1 22 rfl rfl)
abbrev cX4_findPass : ByteArray := prog_7_method_6_code
def yX4_findPass : MethodName := ⟨RX4, "findPass", "(LLakeLevels$Land;)V"⟩
def dkwX4_findPass_7 : List UInt8 := [184, 0, 73, 167, 0, 4, 3, 96, 181, 0, 24, 132, 2, 1, 167, 255, 206, 177]
abbrev dktX4_findPass_7 : List UInt8 := dkwX4_findPass_7 ++ []
def dkwX4_findPass_6 : List UInt8 := [42, 180, 0, 27, 28, 184, 0, 58, 153, 0, 21, 3, 42, 180, 0, 14, 43, 180, 0, 69, 28, 46, 100]
abbrev dktX4_findPass_6 : List UInt8 := dkwX4_findPass_6 ++ dktX4_findPass_7
def dkwX4_findPass_5 : List UInt8 := [2, 159, 0, 63, 42, 3, 181, 0, 24, 3, 61, 28, 43, 182, 0, 52, 162, 0, 48, 42, 89, 180, 0, 24]
abbrev dktX4_findPass_5 : List UInt8 := dkwX4_findPass_5 ++ dktX4_findPass_6
def dkwX4_findPass_4 : List UInt8 := [181, 0, 18, 42, 29, 181, 0, 21, 132, 3, 1, 167, 255, 161, 132, 2, 1, 167, 255, 145, 42, 180, 0, 14]
abbrev dktX4_findPass_4 : List UInt8 := dkwX4_findPass_4 ++ dktX4_findPass_5
def dkwX4_findPass_3 : List UInt8 := [28, 29, 182, 0, 66, 42, 180, 0, 14, 162, 0, 23, 42, 43, 28, 29, 182, 0, 66, 181, 0, 14, 42, 28]
abbrev dktX4_findPass_3 : List UInt8 := dkwX4_findPass_3 ++ dktX4_findPass_4
def dkwX4_findPass_2 : List UInt8 := [153, 0, 7, 4, 167, 0, 4, 3, 54, 4, 21, 4, 153, 0, 44, 42, 180, 0, 14, 2, 159, 0, 16, 43]
abbrev dktX4_findPass_2 : List UInt8 := dkwX4_findPass_2 ++ dktX4_findPass_3
def dkwX4_findPass_1 : List UInt8 := [28, 184, 0, 58, 153, 0, 27, 42, 180, 0, 27, 29, 184, 0, 58, 154, 0, 16, 43, 28, 29, 182, 0, 62]
abbrev dktX4_findPass_1 : List UInt8 := dkwX4_findPass_1 ++ dktX4_findPass_2
def dkwX4_findPass_0 : List UInt8 := [3, 61, 28, 43, 182, 0, 52, 162, 0, 109, 3, 62, 29, 43, 182, 0, 52, 162, 0, 93, 42, 180, 0, 27]
abbrev dktX4_findPass_0 : List UInt8 := dkwX4_findPass_0 ++ dktX4_findPass_1
theorem dksX4_findPass_0 : cX4_findPass.data.toList.drop 0 = dktX4_findPass_0 := by decide +kernel
theorem dksX4_findPass_1 : cX4_findPass.data.toList.drop 24 = dktX4_findPass_1 := dk_seg dksX4_findPass_0 24 rfl rfl
theorem dksX4_findPass_2 : cX4_findPass.data.toList.drop 48 = dktX4_findPass_2 := dk_seg dksX4_findPass_1 24 rfl rfl
theorem dksX4_findPass_3 : cX4_findPass.data.toList.drop 72 = dktX4_findPass_3 := dk_seg dksX4_findPass_2 24 rfl rfl
theorem dksX4_findPass_4 : cX4_findPass.data.toList.drop 96 = dktX4_findPass_4 := dk_seg dksX4_findPass_3 24 rfl rfl
theorem dksX4_findPass_5 : cX4_findPass.data.toList.drop 120 = dktX4_findPass_5 := dk_seg dksX4_findPass_4 24 rfl rfl
theorem dksX4_findPass_6 : cX4_findPass.data.toList.drop 144 = dktX4_findPass_6 := dk_seg dksX4_findPass_5 24 rfl rfl
theorem dksX4_findPass_7 : cX4_findPass.data.toList.drop 167 = dktX4_findPass_7 := dk_seg dksX4_findPass_6 23 rfl rfl
theorem dX4_findPass_0 : decode cX4_findPass 0 = .ok (.iconst 0, 1) := dk_3 (dk_at dksX4_findPass_0 0 rfl rfl)
theorem dX4_findPass_1 : decode cX4_findPass 1 = .ok (.istore_n 2, 1) := dk_61 (dk_at dksX4_findPass_0 1 rfl rfl)
theorem dX4_findPass_2 : decode cX4_findPass 2 = .ok (.iload_n 2, 1) := dk_28 (dk_at dksX4_findPass_0 2 rfl rfl)
theorem dX4_findPass_3 : decode cX4_findPass 3 = .ok (.aload_n 1, 1) := dk_43 (dk_at dksX4_findPass_0 3 rfl rfl)
theorem dX4_findPass_4 : decode cX4_findPass 4 = .ok (.invokevirtual 52, 3) := dk_182 0 52 (dk_at dksX4_findPass_0 4 rfl rfl)
theorem dX4_findPass_7 : decode cX4_findPass 7 = .ok (.if_icmp .ge 109, 3) := dk_162 0 109 (dk_at dksX4_findPass_0 7 rfl rfl)
theorem dX4_findPass_10 : decode cX4_findPass 10 = .ok (.iconst 0, 1) := dk_3 (dk_at dksX4_findPass_0 10 rfl rfl)
theorem dX4_findPass_11 : decode cX4_findPass 11 = .ok (.istore_n 3, 1) := dk_62 (dk_at dksX4_findPass_0 11 rfl rfl)
theorem dX4_findPass_12 : decode cX4_findPass 12 = .ok (.iload_n 3, 1) := dk_29 (dk_at dksX4_findPass_0 12 rfl rfl)
theorem dX4_findPass_13 : decode cX4_findPass 13 = .ok (.aload_n 1, 1) := dk_43 (dk_at dksX4_findPass_0 13 rfl rfl)
theorem dX4_findPass_14 : decode cX4_findPass 14 = .ok (.invokevirtual 52, 3) := dk_182 0 52 (dk_at dksX4_findPass_0 14 rfl rfl)
theorem dX4_findPass_17 : decode cX4_findPass 17 = .ok (.if_icmp .ge 93, 3) := dk_162 0 93 (dk_at dksX4_findPass_0 17 rfl rfl)
theorem dX4_findPass_20 : decode cX4_findPass 20 = .ok (.aload_n 0, 1) := dk_42 (dk_at dksX4_findPass_0 20 rfl rfl)
theorem dX4_findPass_21 : decode cX4_findPass 21 = .ok (.getfield 27, 3) := dk_180 0 27 (dk_at dksX4_findPass_0 21 rfl rfl)
theorem dX4_findPass_24 : decode cX4_findPass 24 = .ok (.iload_n 2, 1) := dk_28 (dk_at dksX4_findPass_1 0 rfl rfl)
theorem dX4_findPass_25 : decode cX4_findPass 25 = .ok (.invokestatic 58, 3) := dk_184 0 58 (dk_at dksX4_findPass_1 1 rfl rfl)
theorem dX4_findPass_28 : decode cX4_findPass 28 = .ok (.ifCond .eq 27, 3) := dk_153 0 27 (dk_at dksX4_findPass_1 4 rfl rfl)
theorem dX4_findPass_31 : decode cX4_findPass 31 = .ok (.aload_n 0, 1) := dk_42 (dk_at dksX4_findPass_1 7 rfl rfl)
theorem dX4_findPass_32 : decode cX4_findPass 32 = .ok (.getfield 27, 3) := dk_180 0 27 (dk_at dksX4_findPass_1 8 rfl rfl)
theorem dX4_findPass_35 : decode cX4_findPass 35 = .ok (.iload_n 3, 1) := dk_29 (dk_at dksX4_findPass_1 11 rfl rfl)
theorem dX4_findPass_36 : decode cX4_findPass 36 = .ok (.invokestatic 58, 3) := dk_184 0 58 (dk_at dksX4_findPass_1 12 rfl rfl)
theorem dX4_findPass_39 : decode cX4_findPass 39 = .ok (.ifCond .ne 16, 3) := dk_154 0 16 (dk_at dksX4_findPass_1 15 rfl rfl)
theorem dX4_findPass_42 : decode cX4_findPass 42 = .ok (.aload_n 1, 1) := dk_43 (dk_at dksX4_findPass_1 18 rfl rfl)
theorem dX4_findPass_43 : decode cX4_findPass 43 = .ok (.iload_n 2, 1) := dk_28 (dk_at dksX4_findPass_1 19 rfl rfl)
theorem dX4_findPass_44 : decode cX4_findPass 44 = .ok (.iload_n 3, 1) := dk_29 (dk_at dksX4_findPass_1 20 rfl rfl)
theorem dX4_findPass_45 : decode cX4_findPass 45 = .ok (.invokevirtual 62, 3) := dk_182 0 62 (dk_at dksX4_findPass_1 21 rfl rfl)
theorem dX4_findPass_48 : decode cX4_findPass 48 = .ok (.ifCond .eq 7, 3) := dk_153 0 7 (dk_at dksX4_findPass_2 0 rfl rfl)
theorem dX4_findPass_51 : decode cX4_findPass 51 = .ok (.iconst 1, 1) := dk_4 (dk_at dksX4_findPass_2 3 rfl rfl)
theorem dX4_findPass_52 : decode cX4_findPass 52 = .ok (.goto 4, 3) := dk_167 0 4 (dk_at dksX4_findPass_2 4 rfl rfl)
theorem dX4_findPass_55 : decode cX4_findPass 55 = .ok (.iconst 0, 1) := dk_3 (dk_at dksX4_findPass_2 7 rfl rfl)
theorem dX4_findPass_56 : decode cX4_findPass 56 = .ok (.istore 4, 2) := dk_54 4 (dk_at dksX4_findPass_2 8 rfl rfl)
theorem dX4_findPass_58 : decode cX4_findPass 58 = .ok (.iload 4, 2) := dk_21 4 (dk_at dksX4_findPass_2 10 rfl rfl)
theorem dX4_findPass_60 : decode cX4_findPass 60 = .ok (.ifCond .eq 44, 3) := dk_153 0 44 (dk_at dksX4_findPass_2 12 rfl rfl)
theorem dX4_findPass_63 : decode cX4_findPass 63 = .ok (.aload_n 0, 1) := dk_42 (dk_at dksX4_findPass_2 15 rfl rfl)
theorem dX4_findPass_64 : decode cX4_findPass 64 = .ok (.getfield 14, 3) := dk_180 0 14 (dk_at dksX4_findPass_2 16 rfl rfl)
theorem dX4_findPass_67 : decode cX4_findPass 67 = .ok (.iconst (-1), 1) := dk_2 (dk_at dksX4_findPass_2 19 rfl rfl)
theorem dX4_findPass_68 : decode cX4_findPass 68 = .ok (.if_icmp .eq 16, 3) := dk_159 0 16 (dk_at dksX4_findPass_2 20 rfl rfl)
theorem dX4_findPass_71 : decode cX4_findPass 71 = .ok (.aload_n 1, 1) := dk_43 (dk_at dksX4_findPass_2 23 rfl rfl)
theorem dX4_findPass_72 : decode cX4_findPass 72 = .ok (.iload_n 2, 1) := dk_28 (dk_at dksX4_findPass_3 0 rfl rfl)
theorem dX4_findPass_73 : decode cX4_findPass 73 = .ok (.iload_n 3, 1) := dk_29 (dk_at dksX4_findPass_3 1 rfl rfl)
theorem dX4_findPass_74 : decode cX4_findPass 74 = .ok (.invokevirtual 66, 3) := dk_182 0 66 (dk_at dksX4_findPass_3 2 rfl rfl)
theorem dX4_findPass_77 : decode cX4_findPass 77 = .ok (.aload_n 0, 1) := dk_42 (dk_at dksX4_findPass_3 5 rfl rfl)
theorem dX4_findPass_78 : decode cX4_findPass 78 = .ok (.getfield 14, 3) := dk_180 0 14 (dk_at dksX4_findPass_3 6 rfl rfl)
theorem dX4_findPass_81 : decode cX4_findPass 81 = .ok (.if_icmp .ge 23, 3) := dk_162 0 23 (dk_at dksX4_findPass_3 9 rfl rfl)
theorem dX4_findPass_84 : decode cX4_findPass 84 = .ok (.aload_n 0, 1) := dk_42 (dk_at dksX4_findPass_3 12 rfl rfl)
theorem dX4_findPass_85 : decode cX4_findPass 85 = .ok (.aload_n 1, 1) := dk_43 (dk_at dksX4_findPass_3 13 rfl rfl)
theorem dX4_findPass_86 : decode cX4_findPass 86 = .ok (.iload_n 2, 1) := dk_28 (dk_at dksX4_findPass_3 14 rfl rfl)
theorem dX4_findPass_87 : decode cX4_findPass 87 = .ok (.iload_n 3, 1) := dk_29 (dk_at dksX4_findPass_3 15 rfl rfl)
theorem dX4_findPass_88 : decode cX4_findPass 88 = .ok (.invokevirtual 66, 3) := dk_182 0 66 (dk_at dksX4_findPass_3 16 rfl rfl)
theorem dX4_findPass_91 : decode cX4_findPass 91 = .ok (.putfield 14, 3) := dk_181 0 14 (dk_at dksX4_findPass_3 19 rfl rfl)
theorem dX4_findPass_94 : decode cX4_findPass 94 = .ok (.aload_n 0, 1) := dk_42 (dk_at dksX4_findPass_3 22 rfl rfl)
theorem dX4_findPass_95 : decode cX4_findPass 95 = .ok (.iload_n 2, 1) := dk_28 (dk_at dksX4_findPass_3 23 rfl rfl)
theorem dX4_findPass_96 : decode cX4_findPass 96 = .ok (.putfield 18, 3) := dk_181 0 18 (dk_at dksX4_findPass_4 0 rfl rfl)
theorem dX4_findPass_99 : decode cX4_findPass 99 = .ok (.aload_n 0, 1) := dk_42 (dk_at dksX4_findPass_4 3 rfl rfl)
theorem dX4_findPass_100 : decode cX4_findPass 100 = .ok (.iload_n 3, 1) := dk_29 (dk_at dksX4_findPass_4 4 rfl rfl)
theorem dX4_findPass_101 : decode cX4_findPass 101 = .ok (.putfield 21, 3) := dk_181 0 21 (dk_at dksX4_findPass_4 5 rfl rfl)
theorem dX4_findPass_104 : decode cX4_findPass 104 = .ok (.iinc 3 1, 3) := dk_132 3 1 (dk_at dksX4_findPass_4 8 rfl rfl)
theorem dX4_findPass_107 : decode cX4_findPass 107 = .ok (.goto (-95), 3) := dk_167 255 161 (dk_at dksX4_findPass_4 11 rfl rfl)
theorem dX4_findPass_110 : decode cX4_findPass 110 = .ok (.iinc 2 1, 3) := dk_132 2 1 (dk_at dksX4_findPass_4 14 rfl rfl)
theorem dX4_findPass_113 : decode cX4_findPass 113 = .ok (.goto (-111), 3) := dk_167 255 145 (dk_at dksX4_findPass_4 17 rfl rfl)
theorem dX4_findPass_116 : decode cX4_findPass 116 = .ok (.aload_n 0, 1) := dk_42 (dk_at dksX4_findPass_4 20 rfl rfl)
theorem dX4_findPass_117 : decode cX4_findPass 117 = .ok (.getfield 14, 3) := dk_180 0 14 (dk_at dksX4_findPass_4 21 rfl rfl)
theorem dX4_findPass_120 : decode cX4_findPass 120 = .ok (.iconst (-1), 1) := dk_2 (dk_at dksX4_findPass_5 0 rfl rfl)
theorem dX4_findPass_121 : decode cX4_findPass 121 = .ok (.if_icmp .eq 63, 3) := dk_159 0 63 (dk_at dksX4_findPass_5 1 rfl rfl)
theorem dX4_findPass_124 : decode cX4_findPass 124 = .ok (.aload_n 0, 1) := dk_42 (dk_at dksX4_findPass_5 4 rfl rfl)
theorem dX4_findPass_125 : decode cX4_findPass 125 = .ok (.iconst 0, 1) := dk_3 (dk_at dksX4_findPass_5 5 rfl rfl)
theorem dX4_findPass_126 : decode cX4_findPass 126 = .ok (.putfield 24, 3) := dk_181 0 24 (dk_at dksX4_findPass_5 6 rfl rfl)
theorem dX4_findPass_129 : decode cX4_findPass 129 = .ok (.iconst 0, 1) := dk_3 (dk_at dksX4_findPass_5 9 rfl rfl)
theorem dX4_findPass_130 : decode cX4_findPass 130 = .ok (.istore_n 2, 1) := dk_61 (dk_at dksX4_findPass_5 10 rfl rfl)
theorem dX4_findPass_131 : decode cX4_findPass 131 = .ok (.iload_n 2, 1) := dk_28 (dk_at dksX4_findPass_5 11 rfl rfl)
theorem dX4_findPass_132 : decode cX4_findPass 132 = .ok (.aload_n 1, 1) := dk_43 (dk_at dksX4_findPass_5 12 rfl rfl)
theorem dX4_findPass_133 : decode cX4_findPass 133 = .ok (.invokevirtual 52, 3) := dk_182 0 52 (dk_at dksX4_findPass_5 13 rfl rfl)
theorem dX4_findPass_136 : decode cX4_findPass 136 = .ok (.if_icmp .ge 48, 3) := dk_162 0 48 (dk_at dksX4_findPass_5 16 rfl rfl)
theorem dX4_findPass_139 : decode cX4_findPass 139 = .ok (.aload_n 0, 1) := dk_42 (dk_at dksX4_findPass_5 19 rfl rfl)
theorem dX4_findPass_140 : decode cX4_findPass 140 = .ok (.dup, 1) := dk_89 (dk_at dksX4_findPass_5 20 rfl rfl)
theorem dX4_findPass_141 : decode cX4_findPass 141 = .ok (.getfield 24, 3) := dk_180 0 24 (dk_at dksX4_findPass_5 21 rfl rfl)
theorem dX4_findPass_144 : decode cX4_findPass 144 = .ok (.aload_n 0, 1) := dk_42 (dk_at dksX4_findPass_6 0 rfl rfl)
theorem dX4_findPass_145 : decode cX4_findPass 145 = .ok (.getfield 27, 3) := dk_180 0 27 (dk_at dksX4_findPass_6 1 rfl rfl)
theorem dX4_findPass_148 : decode cX4_findPass 148 = .ok (.iload_n 2, 1) := dk_28 (dk_at dksX4_findPass_6 4 rfl rfl)
theorem dX4_findPass_149 : decode cX4_findPass 149 = .ok (.invokestatic 58, 3) := dk_184 0 58 (dk_at dksX4_findPass_6 5 rfl rfl)
theorem dX4_findPass_152 : decode cX4_findPass 152 = .ok (.ifCond .eq 21, 3) := dk_153 0 21 (dk_at dksX4_findPass_6 8 rfl rfl)
theorem dX4_findPass_155 : decode cX4_findPass 155 = .ok (.iconst 0, 1) := dk_3 (dk_at dksX4_findPass_6 11 rfl rfl)
theorem dX4_findPass_156 : decode cX4_findPass 156 = .ok (.aload_n 0, 1) := dk_42 (dk_at dksX4_findPass_6 12 rfl rfl)
theorem dX4_findPass_157 : decode cX4_findPass 157 = .ok (.getfield 14, 3) := dk_180 0 14 (dk_at dksX4_findPass_6 13 rfl rfl)
theorem dX4_findPass_160 : decode cX4_findPass 160 = .ok (.aload_n 1, 1) := dk_43 (dk_at dksX4_findPass_6 16 rfl rfl)
theorem dX4_findPass_161 : decode cX4_findPass 161 = .ok (.getfield 69, 3) := dk_180 0 69 (dk_at dksX4_findPass_6 17 rfl rfl)
theorem dX4_findPass_164 : decode cX4_findPass 164 = .ok (.iload_n 2, 1) := dk_28 (dk_at dksX4_findPass_6 20 rfl rfl)
theorem dX4_findPass_165 : decode cX4_findPass 165 = .ok (.iaload, 1) := dk_46 (dk_at dksX4_findPass_6 21 rfl rfl)
theorem dX4_findPass_166 : decode cX4_findPass 166 = .ok (.isub, 1) := dk_100 (dk_at dksX4_findPass_6 22 rfl rfl)
theorem dX4_findPass_167 : decode cX4_findPass 167 = .ok (.invokestatic 73, 3) := dk_184 0 73 (dk_at dksX4_findPass_7 0 rfl rfl)
theorem dX4_findPass_170 : decode cX4_findPass 170 = .ok (.goto 4, 3) := dk_167 0 4 (dk_at dksX4_findPass_7 3 rfl rfl)
theorem dX4_findPass_173 : decode cX4_findPass 173 = .ok (.iconst 0, 1) := dk_3 (dk_at dksX4_findPass_7 6 rfl rfl)
theorem dX4_findPass_174 : decode cX4_findPass 174 = .ok (.iadd, 1) := dk_96 (dk_at dksX4_findPass_7 7 rfl rfl)
theorem dX4_findPass_175 : decode cX4_findPass 175 = .ok (.putfield 24, 3) := dk_181 0 24 (dk_at dksX4_findPass_7 8 rfl rfl)
theorem dX4_findPass_178 : decode cX4_findPass 178 = .ok (.iinc 2 1, 3) := dk_132 2 1 (dk_at dksX4_findPass_7 11 rfl rfl)
theorem dX4_findPass_181 : decode cX4_findPass 181 = .ok (.goto (-50), 3) := dk_167 255 206 (dk_at dksX4_findPass_7 14 rfl rfl)
theorem dX4_findPass_184 : decode cX4_findPass 184 = .ok (.return_, 1) := dk_177 (dk_at dksX4_findPass_7 17 rfl rfl)
abbrev cX4_isWet : ByteArray := prog_7_method_14_code
def yX4_isWet : MethodName := ⟨RX4, "isWet", "(LLakeLevels$Land;I)Z"⟩
def dkwX4_isWet_1 : List UInt8 := [158, 0, 7, 4, 167, 0, 4, 3, 172]
abbrev dktX4_isWet_1 : List UInt8 := dkwX4_isWet_1 ++ []
def dkwX4_isWet_0 : List UInt8 := [42, 43, 3, 182, 0, 94, 133, 43, 180, 0, 69, 28, 46, 133, 42, 43, 4, 182, 0, 94, 133, 105, 148]
abbrev dktX4_isWet_0 : List UInt8 := dkwX4_isWet_0 ++ dktX4_isWet_1
theorem dksX4_isWet_0 : cX4_isWet.data.toList.drop 0 = dktX4_isWet_0 := by decide +kernel
theorem dksX4_isWet_1 : cX4_isWet.data.toList.drop 23 = dktX4_isWet_1 := dk_seg dksX4_isWet_0 23 rfl rfl
theorem dX4_isWet_0 : decode cX4_isWet 0 = .ok (.aload_n 0, 1) := dk_42 (dk_at dksX4_isWet_0 0 rfl rfl)
theorem dX4_isWet_1 : decode cX4_isWet 1 = .ok (.aload_n 1, 1) := dk_43 (dk_at dksX4_isWet_0 1 rfl rfl)
theorem dX4_isWet_2 : decode cX4_isWet 2 = .ok (.iconst 0, 1) := dk_3 (dk_at dksX4_isWet_0 2 rfl rfl)
theorem dX4_isWet_3 : decode cX4_isWet 3 = .ok (.invokevirtual 94, 3) := dk_182 0 94 (dk_at dksX4_isWet_0 3 rfl rfl)
theorem dX4_isWet_6 : decode cX4_isWet 6 = .ok (.i2l, 1) := dk_133 (dk_at dksX4_isWet_0 6 rfl rfl)
theorem dX4_isWet_7 : decode cX4_isWet 7 = .ok (.aload_n 1, 1) := dk_43 (dk_at dksX4_isWet_0 7 rfl rfl)
theorem dX4_isWet_8 : decode cX4_isWet 8 = .ok (.getfield 69, 3) := dk_180 0 69 (dk_at dksX4_isWet_0 8 rfl rfl)
theorem dX4_isWet_11 : decode cX4_isWet 11 = .ok (.iload_n 2, 1) := dk_28 (dk_at dksX4_isWet_0 11 rfl rfl)
theorem dX4_isWet_12 : decode cX4_isWet 12 = .ok (.iaload, 1) := dk_46 (dk_at dksX4_isWet_0 12 rfl rfl)
theorem dX4_isWet_13 : decode cX4_isWet 13 = .ok (.i2l, 1) := dk_133 (dk_at dksX4_isWet_0 13 rfl rfl)
theorem dX4_isWet_14 : decode cX4_isWet 14 = .ok (.aload_n 0, 1) := dk_42 (dk_at dksX4_isWet_0 14 rfl rfl)
theorem dX4_isWet_15 : decode cX4_isWet 15 = .ok (.aload_n 1, 1) := dk_43 (dk_at dksX4_isWet_0 15 rfl rfl)
theorem dX4_isWet_16 : decode cX4_isWet 16 = .ok (.iconst 1, 1) := dk_4 (dk_at dksX4_isWet_0 16 rfl rfl)
theorem dX4_isWet_17 : decode cX4_isWet 17 = .ok (.invokevirtual 94, 3) := dk_182 0 94 (dk_at dksX4_isWet_0 17 rfl rfl)
theorem dX4_isWet_20 : decode cX4_isWet 20 = .ok (.i2l, 1) := dk_133 (dk_at dksX4_isWet_0 20 rfl rfl)
theorem dX4_isWet_21 : decode cX4_isWet 21 = .ok (.lmul, 1) := dk_105 (dk_at dksX4_isWet_0 21 rfl rfl)
theorem dX4_isWet_22 : decode cX4_isWet 22 = .ok (.lcmp, 1) := dk_148 (dk_at dksX4_isWet_0 22 rfl rfl)
theorem dX4_isWet_23 : decode cX4_isWet 23 = .ok (.ifCond .le 7, 3) := dk_158 0 7 (dk_at dksX4_isWet_1 0 rfl rfl)
theorem dX4_isWet_26 : decode cX4_isWet 26 = .ok (.iconst 1, 1) := dk_4 (dk_at dksX4_isWet_1 3 rfl rfl)
theorem dX4_isWet_27 : decode cX4_isWet 27 = .ok (.goto 4, 3) := dk_167 0 4 (dk_at dksX4_isWet_1 4 rfl rfl)
theorem dX4_isWet_30 : decode cX4_isWet 30 = .ok (.iconst 0, 1) := dk_3 (dk_at dksX4_isWet_1 7 rfl rfl)
theorem dX4_isWet_31 : decode cX4_isWet 31 = .ok (.ireturn, 1) := dk_172 (dk_at dksX4_isWet_1 8 rfl rfl)
abbrev cX4_levelPart : ByteArray := prog_7_method_13_code
def yX4_levelPart : MethodName := ⟨RX4, "levelPart", "(LLakeLevels$Land;I)I"⟩
def dkwX4_levelPart_3 : List UInt8 := [154, 0, 8, 21, 5, 167, 0, 5, 21, 6, 21, 5, 21, 6, 184, 0, 91, 108, 172]
abbrev dktX4_levelPart_3 : List UInt8 := dkwX4_levelPart_3 ++ []
def dkwX4_levelPart_2 : List UInt8 := [54, 4, 167, 255, 221, 42, 43, 29, 182, 0, 85, 54, 5, 42, 43, 29, 182, 0, 88, 54, 6, 28]
abbrev dktX4_levelPart_2 : List UInt8 := dkwX4_levelPart_2 ++ dktX4_levelPart_3
def dkwX4_levelPart_1 : List UInt8 := [182, 0, 85, 42, 43, 29, 182, 0, 88, 21, 4, 104, 164, 0, 17, 21, 4, 62, 42, 43, 29, 182, 0, 81]
abbrev dktX4_levelPart_1 : List UInt8 := dkwX4_levelPart_1 ++ dktX4_levelPart_2
def dkwX4_levelPart_0 : List UInt8 := [42, 43, 2, 182, 0, 81, 62, 42, 43, 29, 182, 0, 81, 54, 4, 21, 4, 2, 159, 0, 35, 42, 43, 29]
abbrev dktX4_levelPart_0 : List UInt8 := dkwX4_levelPart_0 ++ dktX4_levelPart_1
theorem dksX4_levelPart_0 : cX4_levelPart.data.toList.drop 0 = dktX4_levelPart_0 := by decide +kernel
theorem dksX4_levelPart_1 : cX4_levelPart.data.toList.drop 24 = dktX4_levelPart_1 := dk_seg dksX4_levelPart_0 24 rfl rfl
theorem dksX4_levelPart_2 : cX4_levelPart.data.toList.drop 48 = dktX4_levelPart_2 := dk_seg dksX4_levelPart_1 24 rfl rfl
theorem dksX4_levelPart_3 : cX4_levelPart.data.toList.drop 70 = dktX4_levelPart_3 := dk_seg dksX4_levelPart_2 22 rfl rfl
theorem dX4_levelPart_0 : decode cX4_levelPart 0 = .ok (.aload_n 0, 1) := dk_42 (dk_at dksX4_levelPart_0 0 rfl rfl)
theorem dX4_levelPart_1 : decode cX4_levelPart 1 = .ok (.aload_n 1, 1) := dk_43 (dk_at dksX4_levelPart_0 1 rfl rfl)
theorem dX4_levelPart_2 : decode cX4_levelPart 2 = .ok (.iconst (-1), 1) := dk_2 (dk_at dksX4_levelPart_0 2 rfl rfl)
theorem dX4_levelPart_3 : decode cX4_levelPart 3 = .ok (.invokevirtual 81, 3) := dk_182 0 81 (dk_at dksX4_levelPart_0 3 rfl rfl)
theorem dX4_levelPart_6 : decode cX4_levelPart 6 = .ok (.istore_n 3, 1) := dk_62 (dk_at dksX4_levelPart_0 6 rfl rfl)
theorem dX4_levelPart_7 : decode cX4_levelPart 7 = .ok (.aload_n 0, 1) := dk_42 (dk_at dksX4_levelPart_0 7 rfl rfl)
theorem dX4_levelPart_8 : decode cX4_levelPart 8 = .ok (.aload_n 1, 1) := dk_43 (dk_at dksX4_levelPart_0 8 rfl rfl)
theorem dX4_levelPart_9 : decode cX4_levelPart 9 = .ok (.iload_n 3, 1) := dk_29 (dk_at dksX4_levelPart_0 9 rfl rfl)
theorem dX4_levelPart_10 : decode cX4_levelPart 10 = .ok (.invokevirtual 81, 3) := dk_182 0 81 (dk_at dksX4_levelPart_0 10 rfl rfl)
theorem dX4_levelPart_13 : decode cX4_levelPart 13 = .ok (.istore 4, 2) := dk_54 4 (dk_at dksX4_levelPart_0 13 rfl rfl)
theorem dX4_levelPart_15 : decode cX4_levelPart 15 = .ok (.iload 4, 2) := dk_21 4 (dk_at dksX4_levelPart_0 15 rfl rfl)
theorem dX4_levelPart_17 : decode cX4_levelPart 17 = .ok (.iconst (-1), 1) := dk_2 (dk_at dksX4_levelPart_0 17 rfl rfl)
theorem dX4_levelPart_18 : decode cX4_levelPart 18 = .ok (.if_icmp .eq 35, 3) := dk_159 0 35 (dk_at dksX4_levelPart_0 18 rfl rfl)
theorem dX4_levelPart_21 : decode cX4_levelPart 21 = .ok (.aload_n 0, 1) := dk_42 (dk_at dksX4_levelPart_0 21 rfl rfl)
theorem dX4_levelPart_22 : decode cX4_levelPart 22 = .ok (.aload_n 1, 1) := dk_43 (dk_at dksX4_levelPart_0 22 rfl rfl)
theorem dX4_levelPart_23 : decode cX4_levelPart 23 = .ok (.iload_n 3, 1) := dk_29 (dk_at dksX4_levelPart_0 23 rfl rfl)
theorem dX4_levelPart_24 : decode cX4_levelPart 24 = .ok (.invokevirtual 85, 3) := dk_182 0 85 (dk_at dksX4_levelPart_1 0 rfl rfl)
theorem dX4_levelPart_27 : decode cX4_levelPart 27 = .ok (.aload_n 0, 1) := dk_42 (dk_at dksX4_levelPart_1 3 rfl rfl)
theorem dX4_levelPart_28 : decode cX4_levelPart 28 = .ok (.aload_n 1, 1) := dk_43 (dk_at dksX4_levelPart_1 4 rfl rfl)
theorem dX4_levelPart_29 : decode cX4_levelPart 29 = .ok (.iload_n 3, 1) := dk_29 (dk_at dksX4_levelPart_1 5 rfl rfl)
theorem dX4_levelPart_30 : decode cX4_levelPart 30 = .ok (.invokevirtual 88, 3) := dk_182 0 88 (dk_at dksX4_levelPart_1 6 rfl rfl)
theorem dX4_levelPart_33 : decode cX4_levelPart 33 = .ok (.iload 4, 2) := dk_21 4 (dk_at dksX4_levelPart_1 9 rfl rfl)
theorem dX4_levelPart_35 : decode cX4_levelPart 35 = .ok (.imul, 1) := dk_104 (dk_at dksX4_levelPart_1 11 rfl rfl)
theorem dX4_levelPart_36 : decode cX4_levelPart 36 = .ok (.if_icmp .le 17, 3) := dk_164 0 17 (dk_at dksX4_levelPart_1 12 rfl rfl)
theorem dX4_levelPart_39 : decode cX4_levelPart 39 = .ok (.iload 4, 2) := dk_21 4 (dk_at dksX4_levelPart_1 15 rfl rfl)
theorem dX4_levelPart_41 : decode cX4_levelPart 41 = .ok (.istore_n 3, 1) := dk_62 (dk_at dksX4_levelPart_1 17 rfl rfl)
theorem dX4_levelPart_42 : decode cX4_levelPart 42 = .ok (.aload_n 0, 1) := dk_42 (dk_at dksX4_levelPart_1 18 rfl rfl)
theorem dX4_levelPart_43 : decode cX4_levelPart 43 = .ok (.aload_n 1, 1) := dk_43 (dk_at dksX4_levelPart_1 19 rfl rfl)
theorem dX4_levelPart_44 : decode cX4_levelPart 44 = .ok (.iload_n 3, 1) := dk_29 (dk_at dksX4_levelPart_1 20 rfl rfl)
theorem dX4_levelPart_45 : decode cX4_levelPart 45 = .ok (.invokevirtual 81, 3) := dk_182 0 81 (dk_at dksX4_levelPart_1 21 rfl rfl)
theorem dX4_levelPart_48 : decode cX4_levelPart 48 = .ok (.istore 4, 2) := dk_54 4 (dk_at dksX4_levelPart_2 0 rfl rfl)
theorem dX4_levelPart_50 : decode cX4_levelPart 50 = .ok (.goto (-35), 3) := dk_167 255 221 (dk_at dksX4_levelPart_2 2 rfl rfl)
theorem dX4_levelPart_53 : decode cX4_levelPart 53 = .ok (.aload_n 0, 1) := dk_42 (dk_at dksX4_levelPart_2 5 rfl rfl)
theorem dX4_levelPart_54 : decode cX4_levelPart 54 = .ok (.aload_n 1, 1) := dk_43 (dk_at dksX4_levelPart_2 6 rfl rfl)
theorem dX4_levelPart_55 : decode cX4_levelPart 55 = .ok (.iload_n 3, 1) := dk_29 (dk_at dksX4_levelPart_2 7 rfl rfl)
theorem dX4_levelPart_56 : decode cX4_levelPart 56 = .ok (.invokevirtual 85, 3) := dk_182 0 85 (dk_at dksX4_levelPart_2 8 rfl rfl)
theorem dX4_levelPart_59 : decode cX4_levelPart 59 = .ok (.istore 5, 2) := dk_54 5 (dk_at dksX4_levelPart_2 11 rfl rfl)
theorem dX4_levelPart_61 : decode cX4_levelPart 61 = .ok (.aload_n 0, 1) := dk_42 (dk_at dksX4_levelPart_2 13 rfl rfl)
theorem dX4_levelPart_62 : decode cX4_levelPart 62 = .ok (.aload_n 1, 1) := dk_43 (dk_at dksX4_levelPart_2 14 rfl rfl)
theorem dX4_levelPart_63 : decode cX4_levelPart 63 = .ok (.iload_n 3, 1) := dk_29 (dk_at dksX4_levelPart_2 15 rfl rfl)
theorem dX4_levelPart_64 : decode cX4_levelPart 64 = .ok (.invokevirtual 88, 3) := dk_182 0 88 (dk_at dksX4_levelPart_2 16 rfl rfl)
theorem dX4_levelPart_67 : decode cX4_levelPart 67 = .ok (.istore 6, 2) := dk_54 6 (dk_at dksX4_levelPart_2 19 rfl rfl)
theorem dX4_levelPart_69 : decode cX4_levelPart 69 = .ok (.iload_n 2, 1) := dk_28 (dk_at dksX4_levelPart_2 21 rfl rfl)
theorem dX4_levelPart_70 : decode cX4_levelPart 70 = .ok (.ifCond .ne 8, 3) := dk_154 0 8 (dk_at dksX4_levelPart_3 0 rfl rfl)
theorem dX4_levelPart_73 : decode cX4_levelPart 73 = .ok (.iload 5, 2) := dk_21 5 (dk_at dksX4_levelPart_3 3 rfl rfl)
theorem dX4_levelPart_75 : decode cX4_levelPart 75 = .ok (.goto 5, 3) := dk_167 0 5 (dk_at dksX4_levelPart_3 5 rfl rfl)
theorem dX4_levelPart_78 : decode cX4_levelPart 78 = .ok (.iload 6, 2) := dk_21 6 (dk_at dksX4_levelPart_3 8 rfl rfl)
theorem dX4_levelPart_80 : decode cX4_levelPart 80 = .ok (.iload 5, 2) := dk_21 5 (dk_at dksX4_levelPart_3 10 rfl rfl)
theorem dX4_levelPart_82 : decode cX4_levelPart 82 = .ok (.iload 6, 2) := dk_21 6 (dk_at dksX4_levelPart_3 12 rfl rfl)
theorem dX4_levelPart_84 : decode cX4_levelPart 84 = .ok (.invokestatic 91, 3) := dk_184 0 91 (dk_at dksX4_levelPart_3 14 rfl rfl)
theorem dX4_levelPart_87 : decode cX4_levelPart 87 = .ok (.idiv, 1) := dk_108 (dk_at dksX4_levelPart_3 17 rfl rfl)
theorem dX4_levelPart_88 : decode cX4_levelPart 88 = .ok (.ireturn, 1) := dk_172 (dk_at dksX4_levelPart_3 18 rfl rfl)
abbrev cX4_heightAbove : ByteArray := prog_7_method_10_code
def yX4_heightAbove : MethodName := ⟨RX4, "heightAbove", "(LLakeLevels$Land;I)I"⟩
def dkwX4_heightAbove_3 : List UInt8 := [21, 4, 46, 167, 0, 4, 29, 62, 132, 4, 1, 167, 255, 181, 29, 172]
abbrev dktX4_heightAbove_3 : List UInt8 := dkwX4_heightAbove_3 ++ []
def dkwX4_heightAbove_2 : List UInt8 := [54, 5, 42, 180, 0, 27, 21, 4, 184, 0, 58, 153, 0, 18, 21, 5, 153, 0, 13, 43, 180, 0, 69]
abbrev dktX4_heightAbove_2 : List UInt8 := dkwX4_heightAbove_2 ++ dktX4_heightAbove_3
def dkwX4_heightAbove_1 : List UInt8 := [164, 0, 23, 29, 2, 159, 0, 14, 43, 180, 0, 69, 21, 4, 46, 29, 162, 0, 7, 4, 167, 0, 4, 3]
abbrev dktX4_heightAbove_1 : List UInt8 := dkwX4_heightAbove_1 ++ dktX4_heightAbove_2
def dkwX4_heightAbove_0 : List UInt8 := [2, 62, 3, 54, 4, 21, 4, 43, 182, 0, 52, 162, 0, 72, 43, 180, 0, 69, 21, 4, 46, 28]
abbrev dktX4_heightAbove_0 : List UInt8 := dkwX4_heightAbove_0 ++ dktX4_heightAbove_1
theorem dksX4_heightAbove_0 : cX4_heightAbove.data.toList.drop 0 = dktX4_heightAbove_0 := by decide +kernel
theorem dksX4_heightAbove_1 : cX4_heightAbove.data.toList.drop 22 = dktX4_heightAbove_1 := dk_seg dksX4_heightAbove_0 22 rfl rfl
theorem dksX4_heightAbove_2 : cX4_heightAbove.data.toList.drop 46 = dktX4_heightAbove_2 := dk_seg dksX4_heightAbove_1 24 rfl rfl
theorem dksX4_heightAbove_3 : cX4_heightAbove.data.toList.drop 69 = dktX4_heightAbove_3 := dk_seg dksX4_heightAbove_2 23 rfl rfl
theorem dX4_heightAbove_0 : decode cX4_heightAbove 0 = .ok (.iconst (-1), 1) := dk_2 (dk_at dksX4_heightAbove_0 0 rfl rfl)
theorem dX4_heightAbove_1 : decode cX4_heightAbove 1 = .ok (.istore_n 3, 1) := dk_62 (dk_at dksX4_heightAbove_0 1 rfl rfl)
theorem dX4_heightAbove_2 : decode cX4_heightAbove 2 = .ok (.iconst 0, 1) := dk_3 (dk_at dksX4_heightAbove_0 2 rfl rfl)
theorem dX4_heightAbove_3 : decode cX4_heightAbove 3 = .ok (.istore 4, 2) := dk_54 4 (dk_at dksX4_heightAbove_0 3 rfl rfl)
theorem dX4_heightAbove_5 : decode cX4_heightAbove 5 = .ok (.iload 4, 2) := dk_21 4 (dk_at dksX4_heightAbove_0 5 rfl rfl)
theorem dX4_heightAbove_7 : decode cX4_heightAbove 7 = .ok (.aload_n 1, 1) := dk_43 (dk_at dksX4_heightAbove_0 7 rfl rfl)
theorem dX4_heightAbove_8 : decode cX4_heightAbove 8 = .ok (.invokevirtual 52, 3) := dk_182 0 52 (dk_at dksX4_heightAbove_0 8 rfl rfl)
theorem dX4_heightAbove_11 : decode cX4_heightAbove 11 = .ok (.if_icmp .ge 72, 3) := dk_162 0 72 (dk_at dksX4_heightAbove_0 11 rfl rfl)
theorem dX4_heightAbove_14 : decode cX4_heightAbove 14 = .ok (.aload_n 1, 1) := dk_43 (dk_at dksX4_heightAbove_0 14 rfl rfl)
theorem dX4_heightAbove_15 : decode cX4_heightAbove 15 = .ok (.getfield 69, 3) := dk_180 0 69 (dk_at dksX4_heightAbove_0 15 rfl rfl)
theorem dX4_heightAbove_18 : decode cX4_heightAbove 18 = .ok (.iload 4, 2) := dk_21 4 (dk_at dksX4_heightAbove_0 18 rfl rfl)
theorem dX4_heightAbove_20 : decode cX4_heightAbove 20 = .ok (.iaload, 1) := dk_46 (dk_at dksX4_heightAbove_0 20 rfl rfl)
theorem dX4_heightAbove_21 : decode cX4_heightAbove 21 = .ok (.iload_n 2, 1) := dk_28 (dk_at dksX4_heightAbove_0 21 rfl rfl)
theorem dX4_heightAbove_22 : decode cX4_heightAbove 22 = .ok (.if_icmp .le 23, 3) := dk_164 0 23 (dk_at dksX4_heightAbove_1 0 rfl rfl)
theorem dX4_heightAbove_25 : decode cX4_heightAbove 25 = .ok (.iload_n 3, 1) := dk_29 (dk_at dksX4_heightAbove_1 3 rfl rfl)
theorem dX4_heightAbove_26 : decode cX4_heightAbove 26 = .ok (.iconst (-1), 1) := dk_2 (dk_at dksX4_heightAbove_1 4 rfl rfl)
theorem dX4_heightAbove_27 : decode cX4_heightAbove 27 = .ok (.if_icmp .eq 14, 3) := dk_159 0 14 (dk_at dksX4_heightAbove_1 5 rfl rfl)
theorem dX4_heightAbove_30 : decode cX4_heightAbove 30 = .ok (.aload_n 1, 1) := dk_43 (dk_at dksX4_heightAbove_1 8 rfl rfl)
theorem dX4_heightAbove_31 : decode cX4_heightAbove 31 = .ok (.getfield 69, 3) := dk_180 0 69 (dk_at dksX4_heightAbove_1 9 rfl rfl)
theorem dX4_heightAbove_34 : decode cX4_heightAbove 34 = .ok (.iload 4, 2) := dk_21 4 (dk_at dksX4_heightAbove_1 12 rfl rfl)
theorem dX4_heightAbove_36 : decode cX4_heightAbove 36 = .ok (.iaload, 1) := dk_46 (dk_at dksX4_heightAbove_1 14 rfl rfl)
theorem dX4_heightAbove_37 : decode cX4_heightAbove 37 = .ok (.iload_n 3, 1) := dk_29 (dk_at dksX4_heightAbove_1 15 rfl rfl)
theorem dX4_heightAbove_38 : decode cX4_heightAbove 38 = .ok (.if_icmp .ge 7, 3) := dk_162 0 7 (dk_at dksX4_heightAbove_1 16 rfl rfl)
theorem dX4_heightAbove_41 : decode cX4_heightAbove 41 = .ok (.iconst 1, 1) := dk_4 (dk_at dksX4_heightAbove_1 19 rfl rfl)
theorem dX4_heightAbove_42 : decode cX4_heightAbove 42 = .ok (.goto 4, 3) := dk_167 0 4 (dk_at dksX4_heightAbove_1 20 rfl rfl)
theorem dX4_heightAbove_45 : decode cX4_heightAbove 45 = .ok (.iconst 0, 1) := dk_3 (dk_at dksX4_heightAbove_1 23 rfl rfl)
theorem dX4_heightAbove_46 : decode cX4_heightAbove 46 = .ok (.istore 5, 2) := dk_54 5 (dk_at dksX4_heightAbove_2 0 rfl rfl)
theorem dX4_heightAbove_48 : decode cX4_heightAbove 48 = .ok (.aload_n 0, 1) := dk_42 (dk_at dksX4_heightAbove_2 2 rfl rfl)
theorem dX4_heightAbove_49 : decode cX4_heightAbove 49 = .ok (.getfield 27, 3) := dk_180 0 27 (dk_at dksX4_heightAbove_2 3 rfl rfl)
theorem dX4_heightAbove_52 : decode cX4_heightAbove 52 = .ok (.iload 4, 2) := dk_21 4 (dk_at dksX4_heightAbove_2 6 rfl rfl)
theorem dX4_heightAbove_54 : decode cX4_heightAbove 54 = .ok (.invokestatic 58, 3) := dk_184 0 58 (dk_at dksX4_heightAbove_2 8 rfl rfl)
theorem dX4_heightAbove_57 : decode cX4_heightAbove 57 = .ok (.ifCond .eq 18, 3) := dk_153 0 18 (dk_at dksX4_heightAbove_2 11 rfl rfl)
theorem dX4_heightAbove_60 : decode cX4_heightAbove 60 = .ok (.iload 5, 2) := dk_21 5 (dk_at dksX4_heightAbove_2 14 rfl rfl)
theorem dX4_heightAbove_62 : decode cX4_heightAbove 62 = .ok (.ifCond .eq 13, 3) := dk_153 0 13 (dk_at dksX4_heightAbove_2 16 rfl rfl)
theorem dX4_heightAbove_65 : decode cX4_heightAbove 65 = .ok (.aload_n 1, 1) := dk_43 (dk_at dksX4_heightAbove_2 19 rfl rfl)
theorem dX4_heightAbove_66 : decode cX4_heightAbove 66 = .ok (.getfield 69, 3) := dk_180 0 69 (dk_at dksX4_heightAbove_2 20 rfl rfl)
theorem dX4_heightAbove_69 : decode cX4_heightAbove 69 = .ok (.iload 4, 2) := dk_21 4 (dk_at dksX4_heightAbove_3 0 rfl rfl)
theorem dX4_heightAbove_71 : decode cX4_heightAbove 71 = .ok (.iaload, 1) := dk_46 (dk_at dksX4_heightAbove_3 2 rfl rfl)
theorem dX4_heightAbove_72 : decode cX4_heightAbove 72 = .ok (.goto 4, 3) := dk_167 0 4 (dk_at dksX4_heightAbove_3 3 rfl rfl)
theorem dX4_heightAbove_75 : decode cX4_heightAbove 75 = .ok (.iload_n 3, 1) := dk_29 (dk_at dksX4_heightAbove_3 6 rfl rfl)
theorem dX4_heightAbove_76 : decode cX4_heightAbove 76 = .ok (.istore_n 3, 1) := dk_62 (dk_at dksX4_heightAbove_3 7 rfl rfl)
theorem dX4_heightAbove_77 : decode cX4_heightAbove 77 = .ok (.iinc 4 1, 3) := dk_132 4 1 (dk_at dksX4_heightAbove_3 8 rfl rfl)
theorem dX4_heightAbove_80 : decode cX4_heightAbove 80 = .ok (.goto (-75), 3) := dk_167 255 181 (dk_at dksX4_heightAbove_3 11 rfl rfl)
theorem dX4_heightAbove_83 : decode cX4_heightAbove 83 = .ok (.iload_n 3, 1) := dk_29 (dk_at dksX4_heightAbove_3 14 rfl rfl)
theorem dX4_heightAbove_84 : decode cX4_heightAbove 84 = .ok (.ireturn, 1) := dk_172 (dk_at dksX4_heightAbove_3 15 rfl rfl)
abbrev cX4_sumUpTo : ByteArray := prog_7_method_12_code
def yX4_sumUpTo : MethodName := ⟨RX4, "sumUpTo", "(LLakeLevels$Land;I)I"⟩
def dkwX4_sumUpTo_2 : List UInt8 := [167, 0, 4, 3, 96, 62, 132, 4, 1, 167, 255, 207, 29, 172]
abbrev dktX4_sumUpTo_2 : List UInt8 := dkwX4_sumUpTo_2 ++ []
def dkwX4_sumUpTo_1 : List UInt8 := [184, 0, 58, 153, 0, 24, 43, 180, 0, 69, 21, 4, 46, 28, 163, 0, 13, 43, 180, 0, 69, 21, 4, 46]
abbrev dktX4_sumUpTo_1 : List UInt8 := dkwX4_sumUpTo_1 ++ dktX4_sumUpTo_2
def dkwX4_sumUpTo_0 : List UInt8 := [42, 180, 0, 42, 62, 3, 54, 4, 21, 4, 43, 182, 0, 52, 162, 0, 46, 29, 42, 180, 0, 27, 21, 4]
abbrev dktX4_sumUpTo_0 : List UInt8 := dkwX4_sumUpTo_0 ++ dktX4_sumUpTo_1
theorem dksX4_sumUpTo_0 : cX4_sumUpTo.data.toList.drop 0 = dktX4_sumUpTo_0 := by decide +kernel
theorem dksX4_sumUpTo_1 : cX4_sumUpTo.data.toList.drop 24 = dktX4_sumUpTo_1 := dk_seg dksX4_sumUpTo_0 24 rfl rfl
theorem dksX4_sumUpTo_2 : cX4_sumUpTo.data.toList.drop 48 = dktX4_sumUpTo_2 := dk_seg dksX4_sumUpTo_1 24 rfl rfl
theorem dX4_sumUpTo_0 : decode cX4_sumUpTo 0 = .ok (.aload_n 0, 1) := dk_42 (dk_at dksX4_sumUpTo_0 0 rfl rfl)
theorem dX4_sumUpTo_1 : decode cX4_sumUpTo 1 = .ok (.getfield 42, 3) := dk_180 0 42 (dk_at dksX4_sumUpTo_0 1 rfl rfl)
theorem dX4_sumUpTo_4 : decode cX4_sumUpTo 4 = .ok (.istore_n 3, 1) := dk_62 (dk_at dksX4_sumUpTo_0 4 rfl rfl)
theorem dX4_sumUpTo_5 : decode cX4_sumUpTo 5 = .ok (.iconst 0, 1) := dk_3 (dk_at dksX4_sumUpTo_0 5 rfl rfl)
theorem dX4_sumUpTo_6 : decode cX4_sumUpTo 6 = .ok (.istore 4, 2) := dk_54 4 (dk_at dksX4_sumUpTo_0 6 rfl rfl)
theorem dX4_sumUpTo_8 : decode cX4_sumUpTo 8 = .ok (.iload 4, 2) := dk_21 4 (dk_at dksX4_sumUpTo_0 8 rfl rfl)
theorem dX4_sumUpTo_10 : decode cX4_sumUpTo 10 = .ok (.aload_n 1, 1) := dk_43 (dk_at dksX4_sumUpTo_0 10 rfl rfl)
theorem dX4_sumUpTo_11 : decode cX4_sumUpTo 11 = .ok (.invokevirtual 52, 3) := dk_182 0 52 (dk_at dksX4_sumUpTo_0 11 rfl rfl)
theorem dX4_sumUpTo_14 : decode cX4_sumUpTo 14 = .ok (.if_icmp .ge 46, 3) := dk_162 0 46 (dk_at dksX4_sumUpTo_0 14 rfl rfl)
theorem dX4_sumUpTo_17 : decode cX4_sumUpTo 17 = .ok (.iload_n 3, 1) := dk_29 (dk_at dksX4_sumUpTo_0 17 rfl rfl)
theorem dX4_sumUpTo_18 : decode cX4_sumUpTo 18 = .ok (.aload_n 0, 1) := dk_42 (dk_at dksX4_sumUpTo_0 18 rfl rfl)
theorem dX4_sumUpTo_19 : decode cX4_sumUpTo 19 = .ok (.getfield 27, 3) := dk_180 0 27 (dk_at dksX4_sumUpTo_0 19 rfl rfl)
theorem dX4_sumUpTo_22 : decode cX4_sumUpTo 22 = .ok (.iload 4, 2) := dk_21 4 (dk_at dksX4_sumUpTo_0 22 rfl rfl)
theorem dX4_sumUpTo_24 : decode cX4_sumUpTo 24 = .ok (.invokestatic 58, 3) := dk_184 0 58 (dk_at dksX4_sumUpTo_1 0 rfl rfl)
theorem dX4_sumUpTo_27 : decode cX4_sumUpTo 27 = .ok (.ifCond .eq 24, 3) := dk_153 0 24 (dk_at dksX4_sumUpTo_1 3 rfl rfl)
theorem dX4_sumUpTo_30 : decode cX4_sumUpTo 30 = .ok (.aload_n 1, 1) := dk_43 (dk_at dksX4_sumUpTo_1 6 rfl rfl)
theorem dX4_sumUpTo_31 : decode cX4_sumUpTo 31 = .ok (.getfield 69, 3) := dk_180 0 69 (dk_at dksX4_sumUpTo_1 7 rfl rfl)
theorem dX4_sumUpTo_34 : decode cX4_sumUpTo 34 = .ok (.iload 4, 2) := dk_21 4 (dk_at dksX4_sumUpTo_1 10 rfl rfl)
theorem dX4_sumUpTo_36 : decode cX4_sumUpTo 36 = .ok (.iaload, 1) := dk_46 (dk_at dksX4_sumUpTo_1 12 rfl rfl)
theorem dX4_sumUpTo_37 : decode cX4_sumUpTo 37 = .ok (.iload_n 2, 1) := dk_28 (dk_at dksX4_sumUpTo_1 13 rfl rfl)
theorem dX4_sumUpTo_38 : decode cX4_sumUpTo 38 = .ok (.if_icmp .gt 13, 3) := dk_163 0 13 (dk_at dksX4_sumUpTo_1 14 rfl rfl)
theorem dX4_sumUpTo_41 : decode cX4_sumUpTo 41 = .ok (.aload_n 1, 1) := dk_43 (dk_at dksX4_sumUpTo_1 17 rfl rfl)
theorem dX4_sumUpTo_42 : decode cX4_sumUpTo 42 = .ok (.getfield 69, 3) := dk_180 0 69 (dk_at dksX4_sumUpTo_1 18 rfl rfl)
theorem dX4_sumUpTo_45 : decode cX4_sumUpTo 45 = .ok (.iload 4, 2) := dk_21 4 (dk_at dksX4_sumUpTo_1 21 rfl rfl)
theorem dX4_sumUpTo_47 : decode cX4_sumUpTo 47 = .ok (.iaload, 1) := dk_46 (dk_at dksX4_sumUpTo_1 23 rfl rfl)
theorem dX4_sumUpTo_48 : decode cX4_sumUpTo 48 = .ok (.goto 4, 3) := dk_167 0 4 (dk_at dksX4_sumUpTo_2 0 rfl rfl)
theorem dX4_sumUpTo_51 : decode cX4_sumUpTo 51 = .ok (.iconst 0, 1) := dk_3 (dk_at dksX4_sumUpTo_2 3 rfl rfl)
theorem dX4_sumUpTo_52 : decode cX4_sumUpTo 52 = .ok (.iadd, 1) := dk_96 (dk_at dksX4_sumUpTo_2 4 rfl rfl)
theorem dX4_sumUpTo_53 : decode cX4_sumUpTo 53 = .ok (.istore_n 3, 1) := dk_62 (dk_at dksX4_sumUpTo_2 5 rfl rfl)
theorem dX4_sumUpTo_54 : decode cX4_sumUpTo 54 = .ok (.iinc 4 1, 3) := dk_132 4 1 (dk_at dksX4_sumUpTo_2 6 rfl rfl)
theorem dX4_sumUpTo_57 : decode cX4_sumUpTo 57 = .ok (.goto (-49), 3) := dk_167 255 207 (dk_at dksX4_sumUpTo_2 9 rfl rfl)
theorem dX4_sumUpTo_60 : decode cX4_sumUpTo 60 = .ok (.iload_n 3, 1) := dk_29 (dk_at dksX4_sumUpTo_2 12 rfl rfl)
theorem dX4_sumUpTo_61 : decode cX4_sumUpTo 61 = .ok (.ireturn, 1) := dk_172 (dk_at dksX4_sumUpTo_2 13 rfl rfl)
abbrev cX4_countUpTo : ByteArray := prog_7_method_11_code
def yX4_countUpTo : MethodName := ⟨RX4, "countUpTo", "(LLakeLevels$Land;I)I"⟩
def dkwX4_countUpTo_2 : List UInt8 := [167, 255, 213, 29, 172]
abbrev dktX4_countUpTo_2 : List UInt8 := dkwX4_countUpTo_2 ++ []
def dkwX4_countUpTo_1 : List UInt8 := [153, 0, 18, 43, 180, 0, 69, 21, 4, 46, 28, 163, 0, 7, 4, 167, 0, 4, 3, 96, 62, 132, 4, 1]
abbrev dktX4_countUpTo_1 : List UInt8 := dkwX4_countUpTo_1 ++ dktX4_countUpTo_2
def dkwX4_countUpTo_0 : List UInt8 := [3, 62, 3, 54, 4, 21, 4, 43, 182, 0, 52, 162, 0, 40, 29, 42, 180, 0, 27, 21, 4, 184, 0, 58]
abbrev dktX4_countUpTo_0 : List UInt8 := dkwX4_countUpTo_0 ++ dktX4_countUpTo_1
theorem dksX4_countUpTo_0 : cX4_countUpTo.data.toList.drop 0 = dktX4_countUpTo_0 := by decide +kernel
theorem dksX4_countUpTo_1 : cX4_countUpTo.data.toList.drop 24 = dktX4_countUpTo_1 := dk_seg dksX4_countUpTo_0 24 rfl rfl
theorem dksX4_countUpTo_2 : cX4_countUpTo.data.toList.drop 48 = dktX4_countUpTo_2 := dk_seg dksX4_countUpTo_1 24 rfl rfl
theorem dX4_countUpTo_0 : decode cX4_countUpTo 0 = .ok (.iconst 0, 1) := dk_3 (dk_at dksX4_countUpTo_0 0 rfl rfl)
theorem dX4_countUpTo_1 : decode cX4_countUpTo 1 = .ok (.istore_n 3, 1) := dk_62 (dk_at dksX4_countUpTo_0 1 rfl rfl)
theorem dX4_countUpTo_2 : decode cX4_countUpTo 2 = .ok (.iconst 0, 1) := dk_3 (dk_at dksX4_countUpTo_0 2 rfl rfl)
theorem dX4_countUpTo_3 : decode cX4_countUpTo 3 = .ok (.istore 4, 2) := dk_54 4 (dk_at dksX4_countUpTo_0 3 rfl rfl)
theorem dX4_countUpTo_5 : decode cX4_countUpTo 5 = .ok (.iload 4, 2) := dk_21 4 (dk_at dksX4_countUpTo_0 5 rfl rfl)
theorem dX4_countUpTo_7 : decode cX4_countUpTo 7 = .ok (.aload_n 1, 1) := dk_43 (dk_at dksX4_countUpTo_0 7 rfl rfl)
theorem dX4_countUpTo_8 : decode cX4_countUpTo 8 = .ok (.invokevirtual 52, 3) := dk_182 0 52 (dk_at dksX4_countUpTo_0 8 rfl rfl)
theorem dX4_countUpTo_11 : decode cX4_countUpTo 11 = .ok (.if_icmp .ge 40, 3) := dk_162 0 40 (dk_at dksX4_countUpTo_0 11 rfl rfl)
theorem dX4_countUpTo_14 : decode cX4_countUpTo 14 = .ok (.iload_n 3, 1) := dk_29 (dk_at dksX4_countUpTo_0 14 rfl rfl)
theorem dX4_countUpTo_15 : decode cX4_countUpTo 15 = .ok (.aload_n 0, 1) := dk_42 (dk_at dksX4_countUpTo_0 15 rfl rfl)
theorem dX4_countUpTo_16 : decode cX4_countUpTo 16 = .ok (.getfield 27, 3) := dk_180 0 27 (dk_at dksX4_countUpTo_0 16 rfl rfl)
theorem dX4_countUpTo_19 : decode cX4_countUpTo 19 = .ok (.iload 4, 2) := dk_21 4 (dk_at dksX4_countUpTo_0 19 rfl rfl)
theorem dX4_countUpTo_21 : decode cX4_countUpTo 21 = .ok (.invokestatic 58, 3) := dk_184 0 58 (dk_at dksX4_countUpTo_0 21 rfl rfl)
theorem dX4_countUpTo_24 : decode cX4_countUpTo 24 = .ok (.ifCond .eq 18, 3) := dk_153 0 18 (dk_at dksX4_countUpTo_1 0 rfl rfl)
theorem dX4_countUpTo_27 : decode cX4_countUpTo 27 = .ok (.aload_n 1, 1) := dk_43 (dk_at dksX4_countUpTo_1 3 rfl rfl)
theorem dX4_countUpTo_28 : decode cX4_countUpTo 28 = .ok (.getfield 69, 3) := dk_180 0 69 (dk_at dksX4_countUpTo_1 4 rfl rfl)
theorem dX4_countUpTo_31 : decode cX4_countUpTo 31 = .ok (.iload 4, 2) := dk_21 4 (dk_at dksX4_countUpTo_1 7 rfl rfl)
theorem dX4_countUpTo_33 : decode cX4_countUpTo 33 = .ok (.iaload, 1) := dk_46 (dk_at dksX4_countUpTo_1 9 rfl rfl)
theorem dX4_countUpTo_34 : decode cX4_countUpTo 34 = .ok (.iload_n 2, 1) := dk_28 (dk_at dksX4_countUpTo_1 10 rfl rfl)
theorem dX4_countUpTo_35 : decode cX4_countUpTo 35 = .ok (.if_icmp .gt 7, 3) := dk_163 0 7 (dk_at dksX4_countUpTo_1 11 rfl rfl)
theorem dX4_countUpTo_38 : decode cX4_countUpTo 38 = .ok (.iconst 1, 1) := dk_4 (dk_at dksX4_countUpTo_1 14 rfl rfl)
theorem dX4_countUpTo_39 : decode cX4_countUpTo 39 = .ok (.goto 4, 3) := dk_167 0 4 (dk_at dksX4_countUpTo_1 15 rfl rfl)
theorem dX4_countUpTo_42 : decode cX4_countUpTo 42 = .ok (.iconst 0, 1) := dk_3 (dk_at dksX4_countUpTo_1 18 rfl rfl)
theorem dX4_countUpTo_43 : decode cX4_countUpTo 43 = .ok (.iadd, 1) := dk_96 (dk_at dksX4_countUpTo_1 19 rfl rfl)
theorem dX4_countUpTo_44 : decode cX4_countUpTo 44 = .ok (.istore_n 3, 1) := dk_62 (dk_at dksX4_countUpTo_1 20 rfl rfl)
theorem dX4_countUpTo_45 : decode cX4_countUpTo 45 = .ok (.iinc 4 1, 3) := dk_132 4 1 (dk_at dksX4_countUpTo_1 21 rfl rfl)
theorem dX4_countUpTo_48 : decode cX4_countUpTo 48 = .ok (.goto (-43), 3) := dk_167 255 213 (dk_at dksX4_countUpTo_2 0 rfl rfl)
theorem dX4_countUpTo_51 : decode cX4_countUpTo 51 = .ok (.iload_n 3, 1) := dk_29 (dk_at dksX4_countUpTo_2 3 rfl rfl)
theorem dX4_countUpTo_52 : decode cX4_countUpTo 52 = .ok (.ireturn, 1) := dk_172 (dk_at dksX4_countUpTo_2 4 rfl rfl)
abbrev cX4_copy : ByteArray := prog_7_method_4_code
def yX4_copy : MethodName := ⟨RX4, "copy", "()LLakeLevels$Lake;"⟩
def dkwX4_copy_0 : List UInt8 := [187, 0, 4, 89, 42, 183, 0, 45, 176]
abbrev dktX4_copy_0 : List UInt8 := dkwX4_copy_0 ++ []
theorem dksX4_copy_0 : cX4_copy.data.toList.drop 0 = dktX4_copy_0 := by decide +kernel
theorem dX4_copy_0 : decode cX4_copy 0 = .ok (.new 4, 3) := dk_187 0 4 (dk_at dksX4_copy_0 0 rfl rfl)
theorem dX4_copy_3 : decode cX4_copy 3 = .ok (.dup, 1) := dk_89 (dk_at dksX4_copy_0 3 rfl rfl)
theorem dX4_copy_4 : decode cX4_copy 4 = .ok (.aload_n 0, 1) := dk_42 (dk_at dksX4_copy_0 4 rfl rfl)
theorem dX4_copy_5 : decode cX4_copy 5 = .ok (.invokespecial 45, 3) := dk_183 0 45 (dk_at dksX4_copy_0 5 rfl rfl)
theorem dX4_copy_8 : decode cX4_copy 8 = .ok (.areturn, 1) := dk_176 (dk_at dksX4_copy_0 8 rfl rfl)
abbrev cX4_init_3 : ByteArray := prog_7_method_3_code
def yX4_init_3 : MethodName := ⟨RX4, "<init>", "(LLakeLevels$Lake;)V"⟩
def dkwX4_init_3_5 : List UInt8 := [183, 0, 45, 181, 0, 35, 177]
abbrev dktX4_init_3_5 : List UInt8 := dkwX4_init_3_5 ++ []
def dkwX4_init_3_4 : List UInt8 := [181, 0, 31, 42, 43, 180, 0, 35, 199, 0, 7, 1, 167, 0, 14, 187, 0, 4, 89, 43, 180, 0, 35]
abbrev dktX4_init_3_4 : List UInt8 := dkwX4_init_3_4 ++ dktX4_init_3_5
def dkwX4_init_3_3 : List UInt8 := [42, 43, 180, 0, 31, 199, 0, 7, 1, 167, 0, 14, 187, 0, 4, 89, 43, 180, 0, 31, 183, 0, 45]
abbrev dktX4_init_3_3 : List UInt8 := dkwX4_init_3_3 ++ dktX4_init_3_4
def dkwX4_init_3_2 : List UInt8 := [42, 43, 180, 0, 21, 181, 0, 21, 42, 43, 180, 0, 24, 181, 0, 24, 42, 43, 180, 0, 42, 181, 0, 42]
abbrev dktX4_init_3_2 : List UInt8 := dkwX4_init_3_2 ++ dktX4_init_3_3
def dkwX4_init_3_1 : List UInt8 := [42, 43, 180, 0, 27, 181, 0, 27, 42, 43, 180, 0, 14, 181, 0, 14, 42, 43, 180, 0, 18, 181, 0, 18]
abbrev dktX4_init_3_1 : List UInt8 := dkwX4_init_3_1 ++ dktX4_init_3_2
def dkwX4_init_3_0 : List UInt8 := [42, 183, 0, 9, 42, 2, 181, 0, 14, 42, 2, 181, 0, 18, 42, 2, 181, 0, 21, 42, 2, 181, 0, 24]
abbrev dktX4_init_3_0 : List UInt8 := dkwX4_init_3_0 ++ dktX4_init_3_1
theorem dksX4_init_3_0 : cX4_init_3.data.toList.drop 0 = dktX4_init_3_0 := by decide +kernel
theorem dksX4_init_3_1 : cX4_init_3.data.toList.drop 24 = dktX4_init_3_1 := dk_seg dksX4_init_3_0 24 rfl rfl
theorem dksX4_init_3_2 : cX4_init_3.data.toList.drop 48 = dktX4_init_3_2 := dk_seg dksX4_init_3_1 24 rfl rfl
theorem dksX4_init_3_3 : cX4_init_3.data.toList.drop 72 = dktX4_init_3_3 := dk_seg dksX4_init_3_2 24 rfl rfl
theorem dksX4_init_3_4 : cX4_init_3.data.toList.drop 95 = dktX4_init_3_4 := dk_seg dksX4_init_3_3 23 rfl rfl
theorem dksX4_init_3_5 : cX4_init_3.data.toList.drop 118 = dktX4_init_3_5 := dk_seg dksX4_init_3_4 23 rfl rfl
theorem dX4_init_3_0 : decode cX4_init_3 0 = .ok (.aload_n 0, 1) := dk_42 (dk_at dksX4_init_3_0 0 rfl rfl)
theorem dX4_init_3_1 : decode cX4_init_3 1 = .ok (.invokespecial 9, 3) := dk_183 0 9 (dk_at dksX4_init_3_0 1 rfl rfl)
theorem dX4_init_3_4 : decode cX4_init_3 4 = .ok (.aload_n 0, 1) := dk_42 (dk_at dksX4_init_3_0 4 rfl rfl)
theorem dX4_init_3_5 : decode cX4_init_3 5 = .ok (.iconst (-1), 1) := dk_2 (dk_at dksX4_init_3_0 5 rfl rfl)
theorem dX4_init_3_6 : decode cX4_init_3 6 = .ok (.putfield 14, 3) := dk_181 0 14 (dk_at dksX4_init_3_0 6 rfl rfl)
theorem dX4_init_3_9 : decode cX4_init_3 9 = .ok (.aload_n 0, 1) := dk_42 (dk_at dksX4_init_3_0 9 rfl rfl)
theorem dX4_init_3_10 : decode cX4_init_3 10 = .ok (.iconst (-1), 1) := dk_2 (dk_at dksX4_init_3_0 10 rfl rfl)
theorem dX4_init_3_11 : decode cX4_init_3 11 = .ok (.putfield 18, 3) := dk_181 0 18 (dk_at dksX4_init_3_0 11 rfl rfl)
theorem dX4_init_3_14 : decode cX4_init_3 14 = .ok (.aload_n 0, 1) := dk_42 (dk_at dksX4_init_3_0 14 rfl rfl)
theorem dX4_init_3_15 : decode cX4_init_3 15 = .ok (.iconst (-1), 1) := dk_2 (dk_at dksX4_init_3_0 15 rfl rfl)
theorem dX4_init_3_16 : decode cX4_init_3 16 = .ok (.putfield 21, 3) := dk_181 0 21 (dk_at dksX4_init_3_0 16 rfl rfl)
theorem dX4_init_3_19 : decode cX4_init_3 19 = .ok (.aload_n 0, 1) := dk_42 (dk_at dksX4_init_3_0 19 rfl rfl)
theorem dX4_init_3_20 : decode cX4_init_3 20 = .ok (.iconst (-1), 1) := dk_2 (dk_at dksX4_init_3_0 20 rfl rfl)
theorem dX4_init_3_21 : decode cX4_init_3 21 = .ok (.putfield 24, 3) := dk_181 0 24 (dk_at dksX4_init_3_0 21 rfl rfl)
theorem dX4_init_3_24 : decode cX4_init_3 24 = .ok (.aload_n 0, 1) := dk_42 (dk_at dksX4_init_3_1 0 rfl rfl)
theorem dX4_init_3_25 : decode cX4_init_3 25 = .ok (.aload_n 1, 1) := dk_43 (dk_at dksX4_init_3_1 1 rfl rfl)
theorem dX4_init_3_26 : decode cX4_init_3 26 = .ok (.getfield 27, 3) := dk_180 0 27 (dk_at dksX4_init_3_1 2 rfl rfl)
theorem dX4_init_3_29 : decode cX4_init_3 29 = .ok (.putfield 27, 3) := dk_181 0 27 (dk_at dksX4_init_3_1 5 rfl rfl)
theorem dX4_init_3_32 : decode cX4_init_3 32 = .ok (.aload_n 0, 1) := dk_42 (dk_at dksX4_init_3_1 8 rfl rfl)
theorem dX4_init_3_33 : decode cX4_init_3 33 = .ok (.aload_n 1, 1) := dk_43 (dk_at dksX4_init_3_1 9 rfl rfl)
theorem dX4_init_3_34 : decode cX4_init_3 34 = .ok (.getfield 14, 3) := dk_180 0 14 (dk_at dksX4_init_3_1 10 rfl rfl)
theorem dX4_init_3_37 : decode cX4_init_3 37 = .ok (.putfield 14, 3) := dk_181 0 14 (dk_at dksX4_init_3_1 13 rfl rfl)
theorem dX4_init_3_40 : decode cX4_init_3 40 = .ok (.aload_n 0, 1) := dk_42 (dk_at dksX4_init_3_1 16 rfl rfl)
theorem dX4_init_3_41 : decode cX4_init_3 41 = .ok (.aload_n 1, 1) := dk_43 (dk_at dksX4_init_3_1 17 rfl rfl)
theorem dX4_init_3_42 : decode cX4_init_3 42 = .ok (.getfield 18, 3) := dk_180 0 18 (dk_at dksX4_init_3_1 18 rfl rfl)
theorem dX4_init_3_45 : decode cX4_init_3 45 = .ok (.putfield 18, 3) := dk_181 0 18 (dk_at dksX4_init_3_1 21 rfl rfl)
theorem dX4_init_3_48 : decode cX4_init_3 48 = .ok (.aload_n 0, 1) := dk_42 (dk_at dksX4_init_3_2 0 rfl rfl)
theorem dX4_init_3_49 : decode cX4_init_3 49 = .ok (.aload_n 1, 1) := dk_43 (dk_at dksX4_init_3_2 1 rfl rfl)
theorem dX4_init_3_50 : decode cX4_init_3 50 = .ok (.getfield 21, 3) := dk_180 0 21 (dk_at dksX4_init_3_2 2 rfl rfl)
theorem dX4_init_3_53 : decode cX4_init_3 53 = .ok (.putfield 21, 3) := dk_181 0 21 (dk_at dksX4_init_3_2 5 rfl rfl)
theorem dX4_init_3_56 : decode cX4_init_3 56 = .ok (.aload_n 0, 1) := dk_42 (dk_at dksX4_init_3_2 8 rfl rfl)
theorem dX4_init_3_57 : decode cX4_init_3 57 = .ok (.aload_n 1, 1) := dk_43 (dk_at dksX4_init_3_2 9 rfl rfl)
theorem dX4_init_3_58 : decode cX4_init_3 58 = .ok (.getfield 24, 3) := dk_180 0 24 (dk_at dksX4_init_3_2 10 rfl rfl)
theorem dX4_init_3_61 : decode cX4_init_3 61 = .ok (.putfield 24, 3) := dk_181 0 24 (dk_at dksX4_init_3_2 13 rfl rfl)
theorem dX4_init_3_64 : decode cX4_init_3 64 = .ok (.aload_n 0, 1) := dk_42 (dk_at dksX4_init_3_2 16 rfl rfl)
theorem dX4_init_3_65 : decode cX4_init_3 65 = .ok (.aload_n 1, 1) := dk_43 (dk_at dksX4_init_3_2 17 rfl rfl)
theorem dX4_init_3_66 : decode cX4_init_3 66 = .ok (.getfield 42, 3) := dk_180 0 42 (dk_at dksX4_init_3_2 18 rfl rfl)
theorem dX4_init_3_69 : decode cX4_init_3 69 = .ok (.putfield 42, 3) := dk_181 0 42 (dk_at dksX4_init_3_2 21 rfl rfl)
theorem dX4_init_3_72 : decode cX4_init_3 72 = .ok (.aload_n 0, 1) := dk_42 (dk_at dksX4_init_3_3 0 rfl rfl)
theorem dX4_init_3_73 : decode cX4_init_3 73 = .ok (.aload_n 1, 1) := dk_43 (dk_at dksX4_init_3_3 1 rfl rfl)
theorem dX4_init_3_74 : decode cX4_init_3 74 = .ok (.getfield 31, 3) := dk_180 0 31 (dk_at dksX4_init_3_3 2 rfl rfl)
theorem dX4_init_3_77 : decode cX4_init_3 77 = .ok (.ifnonnull 7, 3) := dk_199 0 7 (dk_at dksX4_init_3_3 5 rfl rfl)
theorem dX4_init_3_80 : decode cX4_init_3 80 = .ok (.aconst_null, 1) := dk_1 (dk_at dksX4_init_3_3 8 rfl rfl)
theorem dX4_init_3_81 : decode cX4_init_3 81 = .ok (.goto 14, 3) := dk_167 0 14 (dk_at dksX4_init_3_3 9 rfl rfl)
theorem dX4_init_3_84 : decode cX4_init_3 84 = .ok (.new 4, 3) := dk_187 0 4 (dk_at dksX4_init_3_3 12 rfl rfl)
theorem dX4_init_3_87 : decode cX4_init_3 87 = .ok (.dup, 1) := dk_89 (dk_at dksX4_init_3_3 15 rfl rfl)
theorem dX4_init_3_88 : decode cX4_init_3 88 = .ok (.aload_n 1, 1) := dk_43 (dk_at dksX4_init_3_3 16 rfl rfl)
theorem dX4_init_3_89 : decode cX4_init_3 89 = .ok (.getfield 31, 3) := dk_180 0 31 (dk_at dksX4_init_3_3 17 rfl rfl)
theorem dX4_init_3_92 : decode cX4_init_3 92 = .ok (.invokespecial 45, 3) := dk_183 0 45 (dk_at dksX4_init_3_3 20 rfl rfl)
theorem dX4_init_3_95 : decode cX4_init_3 95 = .ok (.putfield 31, 3) := dk_181 0 31 (dk_at dksX4_init_3_4 0 rfl rfl)
theorem dX4_init_3_98 : decode cX4_init_3 98 = .ok (.aload_n 0, 1) := dk_42 (dk_at dksX4_init_3_4 3 rfl rfl)
theorem dX4_init_3_99 : decode cX4_init_3 99 = .ok (.aload_n 1, 1) := dk_43 (dk_at dksX4_init_3_4 4 rfl rfl)
theorem dX4_init_3_100 : decode cX4_init_3 100 = .ok (.getfield 35, 3) := dk_180 0 35 (dk_at dksX4_init_3_4 5 rfl rfl)
theorem dX4_init_3_103 : decode cX4_init_3 103 = .ok (.ifnonnull 7, 3) := dk_199 0 7 (dk_at dksX4_init_3_4 8 rfl rfl)
theorem dX4_init_3_106 : decode cX4_init_3 106 = .ok (.aconst_null, 1) := dk_1 (dk_at dksX4_init_3_4 11 rfl rfl)
theorem dX4_init_3_107 : decode cX4_init_3 107 = .ok (.goto 14, 3) := dk_167 0 14 (dk_at dksX4_init_3_4 12 rfl rfl)
theorem dX4_init_3_110 : decode cX4_init_3 110 = .ok (.new 4, 3) := dk_187 0 4 (dk_at dksX4_init_3_4 15 rfl rfl)
theorem dX4_init_3_113 : decode cX4_init_3 113 = .ok (.dup, 1) := dk_89 (dk_at dksX4_init_3_4 18 rfl rfl)
theorem dX4_init_3_114 : decode cX4_init_3 114 = .ok (.aload_n 1, 1) := dk_43 (dk_at dksX4_init_3_4 19 rfl rfl)
theorem dX4_init_3_115 : decode cX4_init_3 115 = .ok (.getfield 35, 3) := dk_180 0 35 (dk_at dksX4_init_3_4 20 rfl rfl)
theorem dX4_init_3_118 : decode cX4_init_3 118 = .ok (.invokespecial 45, 3) := dk_183 0 45 (dk_at dksX4_init_3_5 0 rfl rfl)
theorem dX4_init_3_121 : decode cX4_init_3 121 = .ok (.putfield 35, 3) := dk_181 0 35 (dk_at dksX4_init_3_5 3 rfl rfl)
theorem dX4_init_3_124 : decode cX4_init_3 124 = .ok (.return_, 1) := dk_177 (dk_at dksX4_init_3_5 6 rfl rfl)
abbrev cX4_add : ByteArray := prog_7_method_8_code
def yX4_add : MethodName := ⟨RX4, "add", "(I)I"⟩
def dkwX4_add_1 : List UInt8 := [184, 0, 78, 61, 42, 89, 180, 0, 42, 28, 96, 181, 0, 42, 27, 28, 100, 172]
abbrev dktX4_add_1 : List UInt8 := dkwX4_add_1 ++ []
def dkwX4_add_0 : List UInt8 := [42, 180, 0, 24, 2, 160, 0, 7, 27, 167, 0, 16, 27, 42, 180, 0, 24, 42, 180, 0, 42, 100]
abbrev dktX4_add_0 : List UInt8 := dkwX4_add_0 ++ dktX4_add_1
theorem dksX4_add_0 : cX4_add.data.toList.drop 0 = dktX4_add_0 := by decide +kernel
theorem dksX4_add_1 : cX4_add.data.toList.drop 22 = dktX4_add_1 := dk_seg dksX4_add_0 22 rfl rfl
theorem dX4_add_0 : decode cX4_add 0 = .ok (.aload_n 0, 1) := dk_42 (dk_at dksX4_add_0 0 rfl rfl)
theorem dX4_add_1 : decode cX4_add 1 = .ok (.getfield 24, 3) := dk_180 0 24 (dk_at dksX4_add_0 1 rfl rfl)
theorem dX4_add_4 : decode cX4_add 4 = .ok (.iconst (-1), 1) := dk_2 (dk_at dksX4_add_0 4 rfl rfl)
theorem dX4_add_5 : decode cX4_add 5 = .ok (.if_icmp .ne 7, 3) := dk_160 0 7 (dk_at dksX4_add_0 5 rfl rfl)
theorem dX4_add_8 : decode cX4_add 8 = .ok (.iload_n 1, 1) := dk_27 (dk_at dksX4_add_0 8 rfl rfl)
theorem dX4_add_9 : decode cX4_add 9 = .ok (.goto 16, 3) := dk_167 0 16 (dk_at dksX4_add_0 9 rfl rfl)
theorem dX4_add_12 : decode cX4_add 12 = .ok (.iload_n 1, 1) := dk_27 (dk_at dksX4_add_0 12 rfl rfl)
theorem dX4_add_13 : decode cX4_add 13 = .ok (.aload_n 0, 1) := dk_42 (dk_at dksX4_add_0 13 rfl rfl)
theorem dX4_add_14 : decode cX4_add 14 = .ok (.getfield 24, 3) := dk_180 0 24 (dk_at dksX4_add_0 14 rfl rfl)
theorem dX4_add_17 : decode cX4_add 17 = .ok (.aload_n 0, 1) := dk_42 (dk_at dksX4_add_0 17 rfl rfl)
theorem dX4_add_18 : decode cX4_add 18 = .ok (.getfield 42, 3) := dk_180 0 42 (dk_at dksX4_add_0 18 rfl rfl)
theorem dX4_add_21 : decode cX4_add 21 = .ok (.isub, 1) := dk_100 (dk_at dksX4_add_0 21 rfl rfl)
theorem dX4_add_22 : decode cX4_add 22 = .ok (.invokestatic 78, 3) := dk_184 0 78 (dk_at dksX4_add_1 0 rfl rfl)
theorem dX4_add_25 : decode cX4_add 25 = .ok (.istore_n 2, 1) := dk_61 (dk_at dksX4_add_1 3 rfl rfl)
theorem dX4_add_26 : decode cX4_add 26 = .ok (.aload_n 0, 1) := dk_42 (dk_at dksX4_add_1 4 rfl rfl)
theorem dX4_add_27 : decode cX4_add 27 = .ok (.dup, 1) := dk_89 (dk_at dksX4_add_1 5 rfl rfl)
theorem dX4_add_28 : decode cX4_add 28 = .ok (.getfield 42, 3) := dk_180 0 42 (dk_at dksX4_add_1 6 rfl rfl)
theorem dX4_add_31 : decode cX4_add 31 = .ok (.iload_n 2, 1) := dk_28 (dk_at dksX4_add_1 9 rfl rfl)
theorem dX4_add_32 : decode cX4_add 32 = .ok (.iadd, 1) := dk_96 (dk_at dksX4_add_1 10 rfl rfl)
theorem dX4_add_33 : decode cX4_add 33 = .ok (.putfield 42, 3) := dk_181 0 42 (dk_at dksX4_add_1 11 rfl rfl)
theorem dX4_add_36 : decode cX4_add 36 = .ok (.iload_n 1, 1) := dk_27 (dk_at dksX4_add_1 14 rfl rfl)
theorem dX4_add_37 : decode cX4_add 37 = .ok (.iload_n 2, 1) := dk_28 (dk_at dksX4_add_1 15 rfl rfl)
theorem dX4_add_38 : decode cX4_add 38 = .ok (.isub, 1) := dk_100 (dk_at dksX4_add_1 16 rfl rfl)
theorem dX4_add_39 : decode cX4_add 39 = .ok (.ireturn, 1) := dk_172 (dk_at dksX4_add_1 17 rfl rfl)
abbrev cX4_isFull : ByteArray := prog_7_method_7_code
def yX4_isFull : MethodName := ⟨RX4, "isFull", "()Z"⟩
def dkwX4_isFull_0 : List UInt8 := [42, 180, 0, 42, 42, 180, 0, 24, 160, 0, 7, 4, 167, 0, 4, 3, 172]
abbrev dktX4_isFull_0 : List UInt8 := dkwX4_isFull_0 ++ []
theorem dksX4_isFull_0 : cX4_isFull.data.toList.drop 0 = dktX4_isFull_0 := by decide +kernel
theorem dX4_isFull_0 : decode cX4_isFull 0 = .ok (.aload_n 0, 1) := dk_42 (dk_at dksX4_isFull_0 0 rfl rfl)
theorem dX4_isFull_1 : decode cX4_isFull 1 = .ok (.getfield 42, 3) := dk_180 0 42 (dk_at dksX4_isFull_0 1 rfl rfl)
theorem dX4_isFull_4 : decode cX4_isFull 4 = .ok (.aload_n 0, 1) := dk_42 (dk_at dksX4_isFull_0 4 rfl rfl)
theorem dX4_isFull_5 : decode cX4_isFull 5 = .ok (.getfield 24, 3) := dk_180 0 24 (dk_at dksX4_isFull_0 5 rfl rfl)
theorem dX4_isFull_8 : decode cX4_isFull 8 = .ok (.if_icmp .ne 7, 3) := dk_160 0 7 (dk_at dksX4_isFull_0 8 rfl rfl)
theorem dX4_isFull_11 : decode cX4_isFull 11 = .ok (.iconst 1, 1) := dk_4 (dk_at dksX4_isFull_0 11 rfl rfl)
theorem dX4_isFull_12 : decode cX4_isFull 12 = .ok (.goto 4, 3) := dk_167 0 4 (dk_at dksX4_isFull_0 12 rfl rfl)
theorem dX4_isFull_15 : decode cX4_isFull 15 = .ok (.iconst 0, 1) := dk_3 (dk_at dksX4_isFull_0 15 rfl rfl)
theorem dX4_isFull_16 : decode cX4_isFull 16 = .ok (.ireturn, 1) := dk_172 (dk_at dksX4_isFull_0 16 rfl rfl)
abbrev cX4_joined : ByteArray := prog_7_method_5_code
def yX4_joined : MethodName := ⟨RX4, "joined", "(LLakeLevels$Land;LLakeLevels$Lake;LLakeLevels$Lake;)LLakeLevels$Lake;"⟩
def dkwX4_joined_3 : List UInt8 := [181, 0, 42, 25, 4, 176]
abbrev dktX4_joined_3 : List UInt8 := dkwX4_joined_3 ++ []
def dkwX4_joined_2 : List UInt8 := [153, 0, 7, 44, 167, 0, 4, 43, 183, 0, 3, 58, 4, 25, 4, 43, 180, 0, 42, 44, 180, 0, 42, 96]
abbrev dktX4_joined_2 : List UInt8 := dkwX4_joined_2 ++ dktX4_joined_3
def dkwX4_joined_1 : List UInt8 := [187, 0, 4, 89, 42, 43, 180, 0, 27, 44, 180, 0, 27, 129, 29, 153, 0, 7, 43, 167, 0, 4, 44, 29]
abbrev dktX4_joined_1 : List UInt8 := dkwX4_joined_1 ++ dktX4_joined_2
def dkwX4_joined_0 : List UInt8 := [43, 180, 0, 27, 184, 0, 48, 44, 180, 0, 27, 184, 0, 48, 162, 0, 7, 4, 167, 0, 4, 3, 62]
abbrev dktX4_joined_0 : List UInt8 := dkwX4_joined_0 ++ dktX4_joined_1
theorem dksX4_joined_0 : cX4_joined.data.toList.drop 0 = dktX4_joined_0 := by decide +kernel
theorem dksX4_joined_1 : cX4_joined.data.toList.drop 23 = dktX4_joined_1 := dk_seg dksX4_joined_0 23 rfl rfl
theorem dksX4_joined_2 : cX4_joined.data.toList.drop 47 = dktX4_joined_2 := dk_seg dksX4_joined_1 24 rfl rfl
theorem dksX4_joined_3 : cX4_joined.data.toList.drop 71 = dktX4_joined_3 := dk_seg dksX4_joined_2 24 rfl rfl
theorem dX4_joined_0 : decode cX4_joined 0 = .ok (.aload_n 1, 1) := dk_43 (dk_at dksX4_joined_0 0 rfl rfl)
theorem dX4_joined_1 : decode cX4_joined 1 = .ok (.getfield 27, 3) := dk_180 0 27 (dk_at dksX4_joined_0 1 rfl rfl)
theorem dX4_joined_4 : decode cX4_joined 4 = .ok (.invokestatic 48, 3) := dk_184 0 48 (dk_at dksX4_joined_0 4 rfl rfl)
theorem dX4_joined_7 : decode cX4_joined 7 = .ok (.aload_n 2, 1) := dk_44 (dk_at dksX4_joined_0 7 rfl rfl)
theorem dX4_joined_8 : decode cX4_joined 8 = .ok (.getfield 27, 3) := dk_180 0 27 (dk_at dksX4_joined_0 8 rfl rfl)
theorem dX4_joined_11 : decode cX4_joined 11 = .ok (.invokestatic 48, 3) := dk_184 0 48 (dk_at dksX4_joined_0 11 rfl rfl)
theorem dX4_joined_14 : decode cX4_joined 14 = .ok (.if_icmp .ge 7, 3) := dk_162 0 7 (dk_at dksX4_joined_0 14 rfl rfl)
theorem dX4_joined_17 : decode cX4_joined 17 = .ok (.iconst 1, 1) := dk_4 (dk_at dksX4_joined_0 17 rfl rfl)
theorem dX4_joined_18 : decode cX4_joined 18 = .ok (.goto 4, 3) := dk_167 0 4 (dk_at dksX4_joined_0 18 rfl rfl)
theorem dX4_joined_21 : decode cX4_joined 21 = .ok (.iconst 0, 1) := dk_3 (dk_at dksX4_joined_0 21 rfl rfl)
theorem dX4_joined_22 : decode cX4_joined 22 = .ok (.istore_n 3, 1) := dk_62 (dk_at dksX4_joined_0 22 rfl rfl)
theorem dX4_joined_23 : decode cX4_joined 23 = .ok (.new 4, 3) := dk_187 0 4 (dk_at dksX4_joined_1 0 rfl rfl)
theorem dX4_joined_26 : decode cX4_joined 26 = .ok (.dup, 1) := dk_89 (dk_at dksX4_joined_1 3 rfl rfl)
theorem dX4_joined_27 : decode cX4_joined 27 = .ok (.aload_n 0, 1) := dk_42 (dk_at dksX4_joined_1 4 rfl rfl)
theorem dX4_joined_28 : decode cX4_joined 28 = .ok (.aload_n 1, 1) := dk_43 (dk_at dksX4_joined_1 5 rfl rfl)
theorem dX4_joined_29 : decode cX4_joined 29 = .ok (.getfield 27, 3) := dk_180 0 27 (dk_at dksX4_joined_1 6 rfl rfl)
theorem dX4_joined_32 : decode cX4_joined 32 = .ok (.aload_n 2, 1) := dk_44 (dk_at dksX4_joined_1 9 rfl rfl)
theorem dX4_joined_33 : decode cX4_joined 33 = .ok (.getfield 27, 3) := dk_180 0 27 (dk_at dksX4_joined_1 10 rfl rfl)
theorem dX4_joined_36 : decode cX4_joined 36 = .ok (.lor, 1) := dk_129 (dk_at dksX4_joined_1 13 rfl rfl)
theorem dX4_joined_37 : decode cX4_joined 37 = .ok (.iload_n 3, 1) := dk_29 (dk_at dksX4_joined_1 14 rfl rfl)
theorem dX4_joined_38 : decode cX4_joined 38 = .ok (.ifCond .eq 7, 3) := dk_153 0 7 (dk_at dksX4_joined_1 15 rfl rfl)
theorem dX4_joined_41 : decode cX4_joined 41 = .ok (.aload_n 1, 1) := dk_43 (dk_at dksX4_joined_1 18 rfl rfl)
theorem dX4_joined_42 : decode cX4_joined 42 = .ok (.goto 4, 3) := dk_167 0 4 (dk_at dksX4_joined_1 19 rfl rfl)
theorem dX4_joined_45 : decode cX4_joined 45 = .ok (.aload_n 2, 1) := dk_44 (dk_at dksX4_joined_1 22 rfl rfl)
theorem dX4_joined_46 : decode cX4_joined 46 = .ok (.iload_n 3, 1) := dk_29 (dk_at dksX4_joined_1 23 rfl rfl)
theorem dX4_joined_47 : decode cX4_joined 47 = .ok (.ifCond .eq 7, 3) := dk_153 0 7 (dk_at dksX4_joined_2 0 rfl rfl)
theorem dX4_joined_50 : decode cX4_joined 50 = .ok (.aload_n 2, 1) := dk_44 (dk_at dksX4_joined_2 3 rfl rfl)
theorem dX4_joined_51 : decode cX4_joined 51 = .ok (.goto 4, 3) := dk_167 0 4 (dk_at dksX4_joined_2 4 rfl rfl)
theorem dX4_joined_54 : decode cX4_joined 54 = .ok (.aload_n 1, 1) := dk_43 (dk_at dksX4_joined_2 7 rfl rfl)
theorem dX4_joined_55 : decode cX4_joined 55 = .ok (.invokespecial 3, 3) := dk_183 0 3 (dk_at dksX4_joined_2 8 rfl rfl)
theorem dX4_joined_58 : decode cX4_joined 58 = .ok (.astore 4, 2) := dk_58 4 (dk_at dksX4_joined_2 11 rfl rfl)
theorem dX4_joined_60 : decode cX4_joined 60 = .ok (.aload 4, 2) := dk_25 4 (dk_at dksX4_joined_2 13 rfl rfl)
theorem dX4_joined_62 : decode cX4_joined 62 = .ok (.aload_n 1, 1) := dk_43 (dk_at dksX4_joined_2 15 rfl rfl)
theorem dX4_joined_63 : decode cX4_joined 63 = .ok (.getfield 42, 3) := dk_180 0 42 (dk_at dksX4_joined_2 16 rfl rfl)
theorem dX4_joined_66 : decode cX4_joined 66 = .ok (.aload_n 2, 1) := dk_44 (dk_at dksX4_joined_2 19 rfl rfl)
theorem dX4_joined_67 : decode cX4_joined 67 = .ok (.getfield 42, 3) := dk_180 0 42 (dk_at dksX4_joined_2 20 rfl rfl)
theorem dX4_joined_70 : decode cX4_joined 70 = .ok (.iadd, 1) := dk_96 (dk_at dksX4_joined_2 23 rfl rfl)
theorem dX4_joined_71 : decode cX4_joined 71 = .ok (.putfield 42, 3) := dk_181 0 42 (dk_at dksX4_joined_3 0 rfl rfl)
theorem dX4_joined_74 : decode cX4_joined 74 = .ok (.aload 4, 2) := dk_25 4 (dk_at dksX4_joined_3 3 rfl rfl)
theorem dX4_joined_76 : decode cX4_joined 76 = .ok (.areturn, 1) := dk_176 (dk_at dksX4_joined_3 5 rfl rfl)
abbrev cX4_wetCells : ByteArray := prog_7_method_15_code
def yX4_wetCells : MethodName := ⟨RX4, "wetCells", "(LLakeLevels$Land;)I"⟩
def dkwX4_wetCells_3 : List UInt8 := [167, 255, 209, 21, 4, 172]
abbrev dktX4_wetCells_3 : List UInt8 := dkwX4_wetCells_3 ++ []
def dkwX4_wetCells_2 : List UInt8 := [180, 0, 69, 21, 5, 46, 29, 104, 164, 0, 7, 4, 167, 0, 4, 3, 96, 54, 4, 132, 5, 1]
abbrev dktX4_wetCells_2 : List UInt8 := dkwX4_wetCells_2 ++ dktX4_wetCells_3
def dkwX4_wetCells_1 : List UInt8 := [182, 0, 52, 162, 0, 44, 21, 4, 42, 180, 0, 27, 21, 5, 184, 0, 58, 153, 0, 20, 28, 43]
abbrev dktX4_wetCells_1 : List UInt8 := dkwX4_wetCells_1 ++ dktX4_wetCells_2
def dkwX4_wetCells_0 : List UInt8 := [42, 43, 3, 182, 0, 94, 61, 42, 43, 4, 182, 0, 94, 62, 3, 54, 4, 3, 54, 5, 21, 5, 43]
abbrev dktX4_wetCells_0 : List UInt8 := dkwX4_wetCells_0 ++ dktX4_wetCells_1
theorem dksX4_wetCells_0 : cX4_wetCells.data.toList.drop 0 = dktX4_wetCells_0 := by decide +kernel
theorem dksX4_wetCells_1 : cX4_wetCells.data.toList.drop 23 = dktX4_wetCells_1 := dk_seg dksX4_wetCells_0 23 rfl rfl
theorem dksX4_wetCells_2 : cX4_wetCells.data.toList.drop 45 = dktX4_wetCells_2 := dk_seg dksX4_wetCells_1 22 rfl rfl
theorem dksX4_wetCells_3 : cX4_wetCells.data.toList.drop 67 = dktX4_wetCells_3 := dk_seg dksX4_wetCells_2 22 rfl rfl
theorem dX4_wetCells_0 : decode cX4_wetCells 0 = .ok (.aload_n 0, 1) := dk_42 (dk_at dksX4_wetCells_0 0 rfl rfl)
theorem dX4_wetCells_1 : decode cX4_wetCells 1 = .ok (.aload_n 1, 1) := dk_43 (dk_at dksX4_wetCells_0 1 rfl rfl)
theorem dX4_wetCells_2 : decode cX4_wetCells 2 = .ok (.iconst 0, 1) := dk_3 (dk_at dksX4_wetCells_0 2 rfl rfl)
theorem dX4_wetCells_3 : decode cX4_wetCells 3 = .ok (.invokevirtual 94, 3) := dk_182 0 94 (dk_at dksX4_wetCells_0 3 rfl rfl)
theorem dX4_wetCells_6 : decode cX4_wetCells 6 = .ok (.istore_n 2, 1) := dk_61 (dk_at dksX4_wetCells_0 6 rfl rfl)
theorem dX4_wetCells_7 : decode cX4_wetCells 7 = .ok (.aload_n 0, 1) := dk_42 (dk_at dksX4_wetCells_0 7 rfl rfl)
theorem dX4_wetCells_8 : decode cX4_wetCells 8 = .ok (.aload_n 1, 1) := dk_43 (dk_at dksX4_wetCells_0 8 rfl rfl)
theorem dX4_wetCells_9 : decode cX4_wetCells 9 = .ok (.iconst 1, 1) := dk_4 (dk_at dksX4_wetCells_0 9 rfl rfl)
theorem dX4_wetCells_10 : decode cX4_wetCells 10 = .ok (.invokevirtual 94, 3) := dk_182 0 94 (dk_at dksX4_wetCells_0 10 rfl rfl)
theorem dX4_wetCells_13 : decode cX4_wetCells 13 = .ok (.istore_n 3, 1) := dk_62 (dk_at dksX4_wetCells_0 13 rfl rfl)
theorem dX4_wetCells_14 : decode cX4_wetCells 14 = .ok (.iconst 0, 1) := dk_3 (dk_at dksX4_wetCells_0 14 rfl rfl)
theorem dX4_wetCells_15 : decode cX4_wetCells 15 = .ok (.istore 4, 2) := dk_54 4 (dk_at dksX4_wetCells_0 15 rfl rfl)
theorem dX4_wetCells_17 : decode cX4_wetCells 17 = .ok (.iconst 0, 1) := dk_3 (dk_at dksX4_wetCells_0 17 rfl rfl)
theorem dX4_wetCells_18 : decode cX4_wetCells 18 = .ok (.istore 5, 2) := dk_54 5 (dk_at dksX4_wetCells_0 18 rfl rfl)
theorem dX4_wetCells_20 : decode cX4_wetCells 20 = .ok (.iload 5, 2) := dk_21 5 (dk_at dksX4_wetCells_0 20 rfl rfl)
theorem dX4_wetCells_22 : decode cX4_wetCells 22 = .ok (.aload_n 1, 1) := dk_43 (dk_at dksX4_wetCells_0 22 rfl rfl)
theorem dX4_wetCells_23 : decode cX4_wetCells 23 = .ok (.invokevirtual 52, 3) := dk_182 0 52 (dk_at dksX4_wetCells_1 0 rfl rfl)
theorem dX4_wetCells_26 : decode cX4_wetCells 26 = .ok (.if_icmp .ge 44, 3) := dk_162 0 44 (dk_at dksX4_wetCells_1 3 rfl rfl)
theorem dX4_wetCells_29 : decode cX4_wetCells 29 = .ok (.iload 4, 2) := dk_21 4 (dk_at dksX4_wetCells_1 6 rfl rfl)
theorem dX4_wetCells_31 : decode cX4_wetCells 31 = .ok (.aload_n 0, 1) := dk_42 (dk_at dksX4_wetCells_1 8 rfl rfl)
theorem dX4_wetCells_32 : decode cX4_wetCells 32 = .ok (.getfield 27, 3) := dk_180 0 27 (dk_at dksX4_wetCells_1 9 rfl rfl)
theorem dX4_wetCells_35 : decode cX4_wetCells 35 = .ok (.iload 5, 2) := dk_21 5 (dk_at dksX4_wetCells_1 12 rfl rfl)
theorem dX4_wetCells_37 : decode cX4_wetCells 37 = .ok (.invokestatic 58, 3) := dk_184 0 58 (dk_at dksX4_wetCells_1 14 rfl rfl)
theorem dX4_wetCells_40 : decode cX4_wetCells 40 = .ok (.ifCond .eq 20, 3) := dk_153 0 20 (dk_at dksX4_wetCells_1 17 rfl rfl)
theorem dX4_wetCells_43 : decode cX4_wetCells 43 = .ok (.iload_n 2, 1) := dk_28 (dk_at dksX4_wetCells_1 20 rfl rfl)
theorem dX4_wetCells_44 : decode cX4_wetCells 44 = .ok (.aload_n 1, 1) := dk_43 (dk_at dksX4_wetCells_1 21 rfl rfl)
theorem dX4_wetCells_45 : decode cX4_wetCells 45 = .ok (.getfield 69, 3) := dk_180 0 69 (dk_at dksX4_wetCells_2 0 rfl rfl)
theorem dX4_wetCells_48 : decode cX4_wetCells 48 = .ok (.iload 5, 2) := dk_21 5 (dk_at dksX4_wetCells_2 3 rfl rfl)
theorem dX4_wetCells_50 : decode cX4_wetCells 50 = .ok (.iaload, 1) := dk_46 (dk_at dksX4_wetCells_2 5 rfl rfl)
theorem dX4_wetCells_51 : decode cX4_wetCells 51 = .ok (.iload_n 3, 1) := dk_29 (dk_at dksX4_wetCells_2 6 rfl rfl)
theorem dX4_wetCells_52 : decode cX4_wetCells 52 = .ok (.imul, 1) := dk_104 (dk_at dksX4_wetCells_2 7 rfl rfl)
theorem dX4_wetCells_53 : decode cX4_wetCells 53 = .ok (.if_icmp .le 7, 3) := dk_164 0 7 (dk_at dksX4_wetCells_2 8 rfl rfl)
theorem dX4_wetCells_56 : decode cX4_wetCells 56 = .ok (.iconst 1, 1) := dk_4 (dk_at dksX4_wetCells_2 11 rfl rfl)
theorem dX4_wetCells_57 : decode cX4_wetCells 57 = .ok (.goto 4, 3) := dk_167 0 4 (dk_at dksX4_wetCells_2 12 rfl rfl)
theorem dX4_wetCells_60 : decode cX4_wetCells 60 = .ok (.iconst 0, 1) := dk_3 (dk_at dksX4_wetCells_2 15 rfl rfl)
theorem dX4_wetCells_61 : decode cX4_wetCells 61 = .ok (.iadd, 1) := dk_96 (dk_at dksX4_wetCells_2 16 rfl rfl)
theorem dX4_wetCells_62 : decode cX4_wetCells 62 = .ok (.istore 4, 2) := dk_54 4 (dk_at dksX4_wetCells_2 17 rfl rfl)
theorem dX4_wetCells_64 : decode cX4_wetCells 64 = .ok (.iinc 5 1, 3) := dk_132 5 1 (dk_at dksX4_wetCells_2 19 rfl rfl)
theorem dX4_wetCells_67 : decode cX4_wetCells 67 = .ok (.goto (-47), 3) := dk_167 255 209 (dk_at dksX4_wetCells_3 0 rfl rfl)
theorem dX4_wetCells_70 : decode cX4_wetCells 70 = .ok (.iload 4, 2) := dk_21 4 (dk_at dksX4_wetCells_3 3 rfl rfl)
theorem dX4_wetCells_72 : decode cX4_wetCells 72 = .ok (.ireturn, 1) := dk_172 (dk_at dksX4_wetCells_3 5 rfl rfl)
abbrev cX4_lowestVolume : ByteArray := prog_7_method_9_code
def yX4_lowestVolume : MethodName := ⟨RX4, "lowestVolume", "()I"⟩
def dkwX4_lowestVolume_1 : List UInt8 := [180, 0, 42, 96, 172]
abbrev dktX4_lowestVolume_1 : List UInt8 := dkwX4_lowestVolume_1 ++ []
def dkwX4_lowestVolume_0 : List UInt8 := [42, 180, 0, 31, 199, 0, 7, 3, 167, 0, 18, 42, 180, 0, 31, 180, 0, 42, 42, 180, 0, 35]
abbrev dktX4_lowestVolume_0 : List UInt8 := dkwX4_lowestVolume_0 ++ dktX4_lowestVolume_1
theorem dksX4_lowestVolume_0 : cX4_lowestVolume.data.toList.drop 0 = dktX4_lowestVolume_0 := by decide +kernel
theorem dksX4_lowestVolume_1 : cX4_lowestVolume.data.toList.drop 22 = dktX4_lowestVolume_1 := dk_seg dksX4_lowestVolume_0 22 rfl rfl
theorem dX4_lowestVolume_0 : decode cX4_lowestVolume 0 = .ok (.aload_n 0, 1) := dk_42 (dk_at dksX4_lowestVolume_0 0 rfl rfl)
theorem dX4_lowestVolume_1 : decode cX4_lowestVolume 1 = .ok (.getfield 31, 3) := dk_180 0 31 (dk_at dksX4_lowestVolume_0 1 rfl rfl)
theorem dX4_lowestVolume_4 : decode cX4_lowestVolume 4 = .ok (.ifnonnull 7, 3) := dk_199 0 7 (dk_at dksX4_lowestVolume_0 4 rfl rfl)
theorem dX4_lowestVolume_7 : decode cX4_lowestVolume 7 = .ok (.iconst 0, 1) := dk_3 (dk_at dksX4_lowestVolume_0 7 rfl rfl)
theorem dX4_lowestVolume_8 : decode cX4_lowestVolume 8 = .ok (.goto 18, 3) := dk_167 0 18 (dk_at dksX4_lowestVolume_0 8 rfl rfl)
theorem dX4_lowestVolume_11 : decode cX4_lowestVolume 11 = .ok (.aload_n 0, 1) := dk_42 (dk_at dksX4_lowestVolume_0 11 rfl rfl)
theorem dX4_lowestVolume_12 : decode cX4_lowestVolume 12 = .ok (.getfield 31, 3) := dk_180 0 31 (dk_at dksX4_lowestVolume_0 12 rfl rfl)
theorem dX4_lowestVolume_15 : decode cX4_lowestVolume 15 = .ok (.getfield 42, 3) := dk_180 0 42 (dk_at dksX4_lowestVolume_0 15 rfl rfl)
theorem dX4_lowestVolume_18 : decode cX4_lowestVolume 18 = .ok (.aload_n 0, 1) := dk_42 (dk_at dksX4_lowestVolume_0 18 rfl rfl)
theorem dX4_lowestVolume_19 : decode cX4_lowestVolume 19 = .ok (.getfield 35, 3) := dk_180 0 35 (dk_at dksX4_lowestVolume_0 19 rfl rfl)
theorem dX4_lowestVolume_22 : decode cX4_lowestVolume 22 = .ok (.getfield 42, 3) := dk_180 0 42 (dk_at dksX4_lowestVolume_1 0 rfl rfl)
theorem dX4_lowestVolume_25 : decode cX4_lowestVolume 25 = .ok (.iadd, 1) := dk_96 (dk_at dksX4_lowestVolume_1 3 rfl rfl)
theorem dX4_lowestVolume_26 : decode cX4_lowestVolume 26 = .ok (.ireturn, 1) := dk_172 (dk_at dksX4_lowestVolume_1 4 rfl rfl)
theorem q121 : (Jvm.Cond.initialized "LakeLevels$Lake") ∈ lw_all := lw_g (lw_at lw_m1 20 rfl) rfl
theorem q173 : (Jvm.Cond.fieldLinkNest "LakeLevels$Lake" (69 : Nat) "LakeLevels$Land" "heights" "[I" "LakeLevels") ∈ lw_tbl := lw_at lw_m1 72 rfl
theorem q446 : (Jvm.Cond.selects "LakeLevels$Lake" ({ cls := "java/lang/Object", name := "getClass", desc := "()Ljava/lang/Class;" } : Jvm.MethodName) ({ cls := "java/lang/Object", name := "getClass", desc := "()Ljava/lang/Class;" } : Jvm.MethodName)) ∈ lw_all := lw_g (lw_at lw_m2 105 rfl) rfl
theorem q562 : (Jvm.Cond.instantiable "LakeLevels$Lake" (8 : Nat)) ∈ lw_all := lw_g (lw_at lw_m2 221 rfl) rfl
theorem q568 : (Jvm.Cond.instanceMethod ({ cls := "LakeLevels$Lake", name := "<init>", desc := "(LLakeLevels$Land;J)V" } : Jvm.MethodName)) ∈ lw_all := lw_g (lw_at lw_m2 227 rfl) rfl
theorem q569 : (Jvm.Cond.code ({ cls := "LakeLevels$Lake", name := "<init>", desc := "(LLakeLevels$Land;J)V" } : Jvm.MethodName) prog_7_method_1_code (4 : Nat) (Option.none : Option Jvm.ClassFile.FieldType)) ∈ lw_all := lw_g (lw_at lw_m2 228 rfl) rfl
theorem q570 : (Jvm.Cond.methodLink "LakeLevels$Lake" (3 : Nat) ({ cls := "LakeLevels$Lake", name := "<init>", desc := "(LLakeLevels$Land;JLLakeLevels$Lake;LLakeLevels$Lake;)V" } : Jvm.MethodName)) ∈ lw_all := lw_g (lw_at lw_m2 229 rfl) rfl
theorem q571 : (Jvm.Cond.instanceMethod ({ cls := "LakeLevels$Lake", name := "<init>", desc := "(LLakeLevels$Land;JLLakeLevels$Lake;LLakeLevels$Lake;)V" } : Jvm.MethodName)) ∈ lw_all := lw_g (lw_at lw_m2 230 rfl) rfl
theorem q572 : (Jvm.Cond.code ({ cls := "LakeLevels$Lake", name := "<init>", desc := "(LLakeLevels$Land;JLLakeLevels$Lake;LLakeLevels$Lake;)V" } : Jvm.MethodName) prog_7_method_2_code (6 : Nat) (Option.none : Option Jvm.ClassFile.FieldType)) ∈ lw_all := lw_g (lw_at lw_m2 231 rfl) rfl
theorem q573 : (Jvm.Cond.methodLink "LakeLevels$Lake" (9 : Nat) ({ cls := "java/lang/Object", name := "<init>", desc := "()V" } : Jvm.MethodName)) ∈ lw_all := lw_g (lw_at lw_m2 232 rfl) rfl
theorem q574 : (Jvm.Cond.methodLink "LakeLevels$Lake" (38 : Nat) ({ cls := "LakeLevels$Lake", name := "findPass", desc := "(LLakeLevels$Land;)V" } : Jvm.MethodName)) ∈ lw_all := lw_g (lw_at lw_m2 233 rfl) rfl
theorem q575 : (Jvm.Cond.privateMethod ({ cls := "LakeLevels$Lake", name := "findPass", desc := "(LLakeLevels$Land;)V" } : Jvm.MethodName)) ∈ lw_tbl := lw_at lw_m2 234 rfl
theorem q576 : (Jvm.Cond.instanceMethod ({ cls := "LakeLevels$Lake", name := "findPass", desc := "(LLakeLevels$Land;)V" } : Jvm.MethodName)) ∈ lw_all := lw_g (lw_at lw_m2 235 rfl) rfl
theorem q577 : (Jvm.Cond.code ({ cls := "LakeLevels$Lake", name := "findPass", desc := "(LLakeLevels$Land;)V" } : Jvm.MethodName) prog_7_method_6_code (5 : Nat) (Option.none : Option Jvm.ClassFile.FieldType)) ∈ lw_all := lw_g (lw_at lw_m2 236 rfl) rfl
theorem q578 : (Jvm.Cond.methodLink "LakeLevels$Lake" (52 : Nat) ({ cls := "LakeLevels$Land", name := "size", desc := "()I" } : Jvm.MethodName)) ∈ lw_all := lw_g (lw_at lw_m2 237 rfl) rfl
theorem q579 : (Jvm.Cond.methodLinkNest "LakeLevels$Lake" (58 : Nat) ({ cls := "LakeLevels", name := "has", desc := "(JI)Z" } : Jvm.MethodName) "LakeLevels") ∈ lw_tbl := lw_at lw_m2 238 rfl
theorem q580 : (Jvm.Cond.methodLink "LakeLevels$Lake" (62 : Nat) ({ cls := "LakeLevels$Land", name := "areNeighbors", desc := "(II)Z" } : Jvm.MethodName)) ∈ lw_all := lw_g (lw_at lw_m2 239 rfl) rfl
theorem q581 : (Jvm.Cond.methodLink "LakeLevels$Lake" (66 : Nat) ({ cls := "LakeLevels$Land", name := "threshold", desc := "(II)I" } : Jvm.MethodName)) ∈ lw_all := lw_g (lw_at lw_m3 0 rfl) rfl
theorem q582 : (Jvm.Cond.methodLink "LakeLevels$Lake" (73 : Nat) ({ cls := "java/lang/Math", name := "max", desc := "(II)I" } : Jvm.MethodName)) ∈ lw_all := lw_g (lw_at lw_m3 1 rfl) rfl
theorem q583 : (Jvm.Cond.fieldLink "LakeLevels$Lake" (27 : Nat) "LakeLevels$Lake" "cells" "J") ∈ lw_all := lw_g (lw_at lw_m3 2 rfl) rfl
theorem q586 : (Jvm.Cond.fieldLink "LakeLevels$Lake" (14 : Nat) "LakeLevels$Lake" "threshold" "I") ∈ lw_all := lw_g (lw_at lw_m3 5 rfl) rfl
theorem q588 : (Jvm.Cond.fieldLink "LakeLevels$Lake" (18 : Nat) "LakeLevels$Lake" "from" "I") ∈ lw_all := lw_g (lw_at lw_m3 7 rfl) rfl
theorem q590 : (Jvm.Cond.fieldLink "LakeLevels$Lake" (21 : Nat) "LakeLevels$Lake" "to" "I") ∈ lw_all := lw_g (lw_at lw_m3 9 rfl) rfl
theorem q592 : (Jvm.Cond.fieldLink "LakeLevels$Lake" (24 : Nat) "LakeLevels$Lake" "capacity" "I") ∈ lw_all := lw_g (lw_at lw_m3 11 rfl) rfl
theorem q594 : (Jvm.Cond.fieldLink "LakeLevels$Lake" (42 : Nat) "LakeLevels$Lake" "volume" "I") ∈ lw_all := lw_g (lw_at lw_m3 13 rfl) rfl
theorem q597 : (Jvm.Cond.fieldLink "LakeLevels$Lake" (31 : Nat) "LakeLevels$Lake" "first" "LLakeLevels$Lake;") ∈ lw_all := lw_g (lw_at lw_m3 16 rfl) rfl
theorem q599 : (Jvm.Cond.fieldLink "LakeLevels$Lake" (35 : Nat) "LakeLevels$Lake" "second" "LLakeLevels$Lake;") ∈ lw_all := lw_g (lw_at lw_m3 18 rfl) rfl
theorem q601 : (Jvm.Cond.laysFinal "LakeLevels$Lake" "LakeLevels$Lake" "cells" "J") ∈ lw_all := lw_g (lw_at lw_m3 20 rfl) rfl
theorem q602 : (Jvm.Cond.soleField "LakeLevels$Lake" "cells") ∈ lw_all := lw_g (lw_at lw_m3 21 rfl) rfl
theorem q603 : (Jvm.Cond.lays "LakeLevels$Lake" "LakeLevels$Lake" "threshold" "I") ∈ lw_all := lw_g (lw_at lw_m3 22 rfl) rfl
theorem q604 : (Jvm.Cond.soleField "LakeLevels$Lake" "threshold") ∈ lw_all := lw_g (lw_at lw_m3 23 rfl) rfl
theorem q605 : (Jvm.Cond.lays "LakeLevels$Lake" "LakeLevels$Lake" "from" "I") ∈ lw_all := lw_g (lw_at lw_m3 24 rfl) rfl
theorem q606 : (Jvm.Cond.soleField "LakeLevels$Lake" "from") ∈ lw_all := lw_g (lw_at lw_m3 25 rfl) rfl
theorem q607 : (Jvm.Cond.lays "LakeLevels$Lake" "LakeLevels$Lake" "to" "I") ∈ lw_all := lw_g (lw_at lw_m3 26 rfl) rfl
theorem q608 : (Jvm.Cond.soleField "LakeLevels$Lake" "to") ∈ lw_all := lw_g (lw_at lw_m3 27 rfl) rfl
theorem q609 : (Jvm.Cond.lays "LakeLevels$Lake" "LakeLevels$Lake" "capacity" "I") ∈ lw_all := lw_g (lw_at lw_m3 28 rfl) rfl
theorem q610 : (Jvm.Cond.soleField "LakeLevels$Lake" "capacity") ∈ lw_all := lw_g (lw_at lw_m3 29 rfl) rfl
theorem q611 : (Jvm.Cond.lays "LakeLevels$Lake" "LakeLevels$Lake" "volume" "I") ∈ lw_all := lw_g (lw_at lw_m3 30 rfl) rfl
theorem q612 : (Jvm.Cond.soleField "LakeLevels$Lake" "volume") ∈ lw_all := lw_g (lw_at lw_m3 31 rfl) rfl
theorem q613 : (Jvm.Cond.laysFinal "LakeLevels$Lake" "LakeLevels$Lake" "first" "LLakeLevels$Lake;") ∈ lw_all := lw_g (lw_at lw_m3 32 rfl) rfl
theorem q614 : (Jvm.Cond.soleField "LakeLevels$Lake" "first") ∈ lw_all := lw_g (lw_at lw_m3 33 rfl) rfl
theorem q615 : (Jvm.Cond.laysFinal "LakeLevels$Lake" "LakeLevels$Lake" "second" "LLakeLevels$Lake;") ∈ lw_all := lw_g (lw_at lw_m3 34 rfl) rfl
theorem q616 : (Jvm.Cond.soleField "LakeLevels$Lake" "second") ∈ lw_all := lw_g (lw_at lw_m3 35 rfl) rfl
theorem q617 : (Jvm.Cond.superclass "LakeLevels$Lake" "java/lang/Object") ∈ lw_all := lw_g (lw_at lw_m3 36 rfl) rfl
theorem q995 : (Jvm.Cond.instanceMethod ({ cls := "LakeLevels$Lake", name := "isWet", desc := "(LLakeLevels$Land;I)Z" } : Jvm.MethodName)) ∈ lw_all := lw_g (lw_at lw_m4 174 rfl) rfl
theorem q996 : (Jvm.Cond.selects "LakeLevels$Lake" ({ cls := "LakeLevels$Lake", name := "isWet", desc := "(LLakeLevels$Land;I)Z" } : Jvm.MethodName) ({ cls := "LakeLevels$Lake", name := "isWet", desc := "(LLakeLevels$Land;I)Z" } : Jvm.MethodName)) ∈ lw_all := lw_g (lw_at lw_m4 175 rfl) rfl
theorem q997 : (Jvm.Cond.code ({ cls := "LakeLevels$Lake", name := "isWet", desc := "(LLakeLevels$Land;I)Z" } : Jvm.MethodName) prog_7_method_14_code (3 : Nat) (Option.some Jvm.ClassFile.FieldType.boolean)) ∈ lw_all := lw_g (lw_at lw_m4 176 rfl) rfl
theorem q998 : (Jvm.Cond.methodLink "LakeLevels$Lake" (94 : Nat) ({ cls := "LakeLevels$Lake", name := "levelPart", desc := "(LLakeLevels$Land;I)I" } : Jvm.MethodName)) ∈ lw_all := lw_g (lw_at lw_m4 177 rfl) rfl
theorem q999 : (Jvm.Cond.instanceMethod ({ cls := "LakeLevels$Lake", name := "levelPart", desc := "(LLakeLevels$Land;I)I" } : Jvm.MethodName)) ∈ lw_all := lw_g (lw_at lw_m4 178 rfl) rfl
theorem q1000 : (Jvm.Cond.selects "LakeLevels$Lake" ({ cls := "LakeLevels$Lake", name := "levelPart", desc := "(LLakeLevels$Land;I)I" } : Jvm.MethodName) ({ cls := "LakeLevels$Lake", name := "levelPart", desc := "(LLakeLevels$Land;I)I" } : Jvm.MethodName)) ∈ lw_all := lw_g (lw_at lw_m4 179 rfl) rfl
theorem q1001 : (Jvm.Cond.code ({ cls := "LakeLevels$Lake", name := "levelPart", desc := "(LLakeLevels$Land;I)I" } : Jvm.MethodName) prog_7_method_13_code (7 : Nat) (Option.some Jvm.ClassFile.FieldType.int)) ∈ lw_all := lw_g (lw_at lw_m4 180 rfl) rfl
theorem q1002 : (Jvm.Cond.methodLink "LakeLevels$Lake" (81 : Nat) ({ cls := "LakeLevels$Lake", name := "heightAbove", desc := "(LLakeLevels$Land;I)I" } : Jvm.MethodName)) ∈ lw_all := lw_g (lw_at lw_m4 181 rfl) rfl
theorem q1003 : (Jvm.Cond.privateMethod ({ cls := "LakeLevels$Lake", name := "heightAbove", desc := "(LLakeLevels$Land;I)I" } : Jvm.MethodName)) ∈ lw_tbl := lw_at lw_m4 182 rfl
theorem q1004 : (Jvm.Cond.instanceMethod ({ cls := "LakeLevels$Lake", name := "heightAbove", desc := "(LLakeLevels$Land;I)I" } : Jvm.MethodName)) ∈ lw_all := lw_g (lw_at lw_m4 183 rfl) rfl
theorem q1005 : (Jvm.Cond.code ({ cls := "LakeLevels$Lake", name := "heightAbove", desc := "(LLakeLevels$Land;I)I" } : Jvm.MethodName) prog_7_method_10_code (6 : Nat) (Option.some Jvm.ClassFile.FieldType.int)) ∈ lw_all := lw_g (lw_at lw_m4 184 rfl) rfl
theorem q1006 : (Jvm.Cond.methodLink "LakeLevels$Lake" (85 : Nat) ({ cls := "LakeLevels$Lake", name := "sumUpTo", desc := "(LLakeLevels$Land;I)I" } : Jvm.MethodName)) ∈ lw_all := lw_g (lw_at lw_m4 185 rfl) rfl
theorem q1007 : (Jvm.Cond.privateMethod ({ cls := "LakeLevels$Lake", name := "sumUpTo", desc := "(LLakeLevels$Land;I)I" } : Jvm.MethodName)) ∈ lw_tbl := lw_at lw_m4 186 rfl
theorem q1008 : (Jvm.Cond.instanceMethod ({ cls := "LakeLevels$Lake", name := "sumUpTo", desc := "(LLakeLevels$Land;I)I" } : Jvm.MethodName)) ∈ lw_all := lw_g (lw_at lw_m4 187 rfl) rfl
theorem q1009 : (Jvm.Cond.code ({ cls := "LakeLevels$Lake", name := "sumUpTo", desc := "(LLakeLevels$Land;I)I" } : Jvm.MethodName) prog_7_method_12_code (5 : Nat) (Option.some Jvm.ClassFile.FieldType.int)) ∈ lw_all := lw_g (lw_at lw_m4 188 rfl) rfl
theorem q1010 : (Jvm.Cond.methodLink "LakeLevels$Lake" (88 : Nat) ({ cls := "LakeLevels$Lake", name := "countUpTo", desc := "(LLakeLevels$Land;I)I" } : Jvm.MethodName)) ∈ lw_all := lw_g (lw_at lw_m4 189 rfl) rfl
theorem q1011 : (Jvm.Cond.privateMethod ({ cls := "LakeLevels$Lake", name := "countUpTo", desc := "(LLakeLevels$Land;I)I" } : Jvm.MethodName)) ∈ lw_tbl := lw_at lw_m4 190 rfl
theorem q1012 : (Jvm.Cond.instanceMethod ({ cls := "LakeLevels$Lake", name := "countUpTo", desc := "(LLakeLevels$Land;I)I" } : Jvm.MethodName)) ∈ lw_all := lw_g (lw_at lw_m4 191 rfl) rfl
theorem q1013 : (Jvm.Cond.code ({ cls := "LakeLevels$Lake", name := "countUpTo", desc := "(LLakeLevels$Land;I)I" } : Jvm.MethodName) prog_7_method_11_code (5 : Nat) (Option.some Jvm.ClassFile.FieldType.int)) ∈ lw_all := lw_g (lw_at lw_m4 192 rfl) rfl
theorem q1014 : (Jvm.Cond.methodLinkNest "LakeLevels$Lake" (91 : Nat) ({ cls := "LakeLevels", name := "gcd", desc := "(II)I" } : Jvm.MethodName) "LakeLevels") ∈ lw_tbl := lw_at lw_m4 193 rfl
theorem q1041 : (Jvm.Cond.instanceMethod ({ cls := "LakeLevels$Lake", name := "copy", desc := "()LLakeLevels$Lake;" } : Jvm.MethodName)) ∈ lw_all := lw_g (lw_at lw_m4 220 rfl) rfl
theorem q1042 : (Jvm.Cond.selects "LakeLevels$Lake" ({ cls := "LakeLevels$Lake", name := "copy", desc := "()LLakeLevels$Lake;" } : Jvm.MethodName) ({ cls := "LakeLevels$Lake", name := "copy", desc := "()LLakeLevels$Lake;" } : Jvm.MethodName)) ∈ lw_all := lw_g (lw_at lw_m4 221 rfl) rfl
theorem q1043 : (Jvm.Cond.code ({ cls := "LakeLevels$Lake", name := "copy", desc := "()LLakeLevels$Lake;" } : Jvm.MethodName) prog_7_method_4_code (1 : Nat) (Option.some (Jvm.ClassFile.FieldType.object "LakeLevels$Lake"))) ∈ lw_all := lw_g (lw_at lw_m4 222 rfl) rfl
theorem q1044 : (Jvm.Cond.classLink "LakeLevels$Lake" (4 : Nat) "LakeLevels$Lake") ∈ lw_all := lw_g (lw_at lw_m4 223 rfl) rfl
theorem q1045 : (Jvm.Cond.methodLink "LakeLevels$Lake" (45 : Nat) ({ cls := "LakeLevels$Lake", name := "<init>", desc := "(LLakeLevels$Lake;)V" } : Jvm.MethodName)) ∈ lw_all := lw_g (lw_at lw_m4 224 rfl) rfl
theorem q1046 : (Jvm.Cond.instanceMethod ({ cls := "LakeLevels$Lake", name := "<init>", desc := "(LLakeLevels$Lake;)V" } : Jvm.MethodName)) ∈ lw_all := lw_g (lw_at lw_m4 225 rfl) rfl
theorem q1047 : (Jvm.Cond.code ({ cls := "LakeLevels$Lake", name := "<init>", desc := "(LLakeLevels$Lake;)V" } : Jvm.MethodName) prog_7_method_3_code (2 : Nat) (Option.none : Option Jvm.ClassFile.FieldType)) ∈ lw_all := lw_g (lw_at lw_m4 226 rfl) rfl
theorem q1057 : (Jvm.Cond.instanceMethod ({ cls := "LakeLevels$Lake", name := "add", desc := "(I)I" } : Jvm.MethodName)) ∈ lw_all := lw_g (lw_at lw_m4 236 rfl) rfl
theorem q1058 : (Jvm.Cond.selects "LakeLevels$Lake" ({ cls := "LakeLevels$Lake", name := "add", desc := "(I)I" } : Jvm.MethodName) ({ cls := "LakeLevels$Lake", name := "add", desc := "(I)I" } : Jvm.MethodName)) ∈ lw_all := lw_g (lw_at lw_m4 237 rfl) rfl
theorem q1059 : (Jvm.Cond.code ({ cls := "LakeLevels$Lake", name := "add", desc := "(I)I" } : Jvm.MethodName) prog_7_method_8_code (3 : Nat) (Option.some Jvm.ClassFile.FieldType.int)) ∈ lw_all := lw_g (lw_at lw_m4 238 rfl) rfl
theorem q1060 : (Jvm.Cond.methodLink "LakeLevels$Lake" (78 : Nat) ({ cls := "java/lang/Math", name := "min", desc := "(II)I" } : Jvm.MethodName)) ∈ lw_all := lw_g (lw_at lw_m4 239 rfl) rfl
theorem q1066 : (Jvm.Cond.instanceMethod ({ cls := "LakeLevels$Lake", name := "isFull", desc := "()Z" } : Jvm.MethodName)) ∈ lw_all := lw_g (lw_at lw_m5 5 rfl) rfl
theorem q1067 : (Jvm.Cond.selects "LakeLevels$Lake" ({ cls := "LakeLevels$Lake", name := "isFull", desc := "()Z" } : Jvm.MethodName) ({ cls := "LakeLevels$Lake", name := "isFull", desc := "()Z" } : Jvm.MethodName)) ∈ lw_all := lw_g (lw_at lw_m5 6 rfl) rfl
theorem q1068 : (Jvm.Cond.code ({ cls := "LakeLevels$Lake", name := "isFull", desc := "()Z" } : Jvm.MethodName) prog_7_method_7_code (1 : Nat) (Option.some Jvm.ClassFile.FieldType.boolean)) ∈ lw_all := lw_g (lw_at lw_m5 7 rfl) rfl
theorem q1070 : (Jvm.Cond.static ({ cls := "LakeLevels$Lake", name := "joined", desc := "(LLakeLevels$Land;LLakeLevels$Lake;LLakeLevels$Lake;)LLakeLevels$Lake;" } : Jvm.MethodName)) ∈ lw_all := lw_g (lw_at lw_m5 9 rfl) rfl
theorem q1071 : (Jvm.Cond.code ({ cls := "LakeLevels$Lake", name := "joined", desc := "(LLakeLevels$Land;LLakeLevels$Lake;LLakeLevels$Lake;)LLakeLevels$Lake;" } : Jvm.MethodName) prog_7_method_5_code (5 : Nat) (Option.some (Jvm.ClassFile.FieldType.object "LakeLevels$Lake"))) ∈ lw_all := lw_g (lw_at lw_m5 10 rfl) rfl
theorem q1072 : (Jvm.Cond.methodLinkNest "LakeLevels$Lake" (48 : Nat) ({ cls := "LakeLevels", name := "lowest", desc := "(J)I" } : Jvm.MethodName) "LakeLevels") ∈ lw_tbl := lw_at lw_m5 11 rfl
theorem q1504 : (Jvm.Cond.instanceMethod ({ cls := "LakeLevels$Lake", name := "wetCells", desc := "(LLakeLevels$Land;)I" } : Jvm.MethodName)) ∈ lw_all := lw_g (lw_at lw_m6 203 rfl) rfl
theorem q1505 : (Jvm.Cond.selects "LakeLevels$Lake" ({ cls := "LakeLevels$Lake", name := "wetCells", desc := "(LLakeLevels$Land;)I" } : Jvm.MethodName) ({ cls := "LakeLevels$Lake", name := "wetCells", desc := "(LLakeLevels$Land;)I" } : Jvm.MethodName)) ∈ lw_all := lw_g (lw_at lw_m6 204 rfl) rfl
theorem q1506 : (Jvm.Cond.code ({ cls := "LakeLevels$Lake", name := "wetCells", desc := "(LLakeLevels$Land;)I" } : Jvm.MethodName) prog_7_method_15_code (6 : Nat) (Option.some Jvm.ClassFile.FieldType.int)) ∈ lw_all := lw_g (lw_at lw_m6 205 rfl) rfl
theorem q1536 : (Jvm.Cond.selects "LakeLevels$Lake" ({ cls := "java/lang/Object", name := "equals", desc := "(Ljava/lang/Object;)Z" } : Jvm.MethodName) ({ cls := "java/lang/Object", name := "equals", desc := "(Ljava/lang/Object;)Z" } : Jvm.MethodName)) ∈ lw_all := lw_g (lw_at lw_m6 235 rfl) rfl
theorem q1583 : (Jvm.Cond.instanceMethod ({ cls := "LakeLevels$Lake", name := "lowestVolume", desc := "()I" } : Jvm.MethodName)) ∈ lw_all := lw_g (lw_at lw_m7 42 rfl) rfl
theorem q1584 : (Jvm.Cond.selects "LakeLevels$Lake" ({ cls := "LakeLevels$Lake", name := "lowestVolume", desc := "()I" } : Jvm.MethodName) ({ cls := "LakeLevels$Lake", name := "lowestVolume", desc := "()I" } : Jvm.MethodName)) ∈ lw_all := lw_g (lw_at lw_m7 43 rfl) rfl
theorem q1585 : (Jvm.Cond.code ({ cls := "LakeLevels$Lake", name := "lowestVolume", desc := "()I" } : Jvm.MethodName) prog_7_method_9_code (1 : Nat) (Option.some Jvm.ClassFile.FieldType.int)) ∈ lw_all := lw_g (lw_at lw_m7 44 rfl) rfl
theorem q2523 : (Jvm.Cond.castable "LakeLevels$Lake" "java/lang/Object") ∈ lw_tbl := lw_at lw_m11 22 rfl
theorem in_X4 : ∀ w ∈ wsX40, w ∈ lw_all := lw_in wsX40 [601, 603, 605, 607, 609, 611, 613, 615] (by decide +kernel) (by decide +kernel)
