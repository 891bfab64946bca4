/-! LakeLevelsModel -/
set_option maxRecDepth 100000
def RX5 : String := "LakeLevelsModel"
def TX5 : u_T := fun k => match k with
  | 0 => ("LakeLevelsModel", "all", "[J", true)
  | 1 => ("LakeLevelsModel", "saved", "[J", true)
  | 2 => ("LakeLevelsModel", "aside", "[J", true)
  | 3 => ("LakeLevelsModel", "savedMany", "I", false)
  | 4 => ("LakeLevelsModel", "thrown", "I", false)
  | 5 => ("LakeLevelsModel", "ends", "[J", true)
  | 6 => ("LakeLevelsModel", "passA", "I", false)
  | 7 => ("LakeLevelsModel", "passB", "I", false)
  | 8 => ("LakeLevelsModel", "pass", "I", false)
  | 9 => ("LakeLevelsModel", "dueLake", "[I", true)
  | 10 => ("LakeLevelsModel", "dueAmount", "[J", true)
  | 11 => ("LakeLevelsModel", "order", "[I", true)
  | 12 => ("LakeLevelsModel", "lakesMany", "I", false)
  | 13 => ("LakeLevelsModel", "above", "J", false)
  | 14 => ("LakeLevelsModel", "below", "J", false)
  | 15 => ("LakeLevelsModel", "pastVolume", "[J", true)
  | 16 => ("LakeLevelsModel", "pastPlace", "[I", true)
  | 17 => ("LakeLevelsModel", "pastMany", "I", false)
  | 18 => ("LakeLevelsModel", "roundLake", "[I", true)
  | 19 => ("LakeLevelsModel", "roundAmount", "[J", true)
  | 20 => ("LakeLevelsModel", "text", "[I", true)
  | 21 => ("LakeLevelsModel", "textLong", "I", false)
  | 22 => ("LakeLevelsModel", "place", "I", false)
  | 23 => ("LakeLevelsModel", "number", "I", false)
  | _ => ("LakeLevelsModel", "read", "[I", true)
def tyX5 : Nat → FieldType := fun k => match k with
  | 0 => .array .long
  | 1 => .array .long
  | 2 => .array .long
  | 3 => .int
  | 4 => .int
  | 5 => .array .long
  | 6 => .int
  | 7 => .int
  | 8 => .int
  | 9 => .array .int
  | 10 => .array .long
  | 11 => .array .int
  | 12 => .int
  | 13 => .long
  | 14 => .long
  | 15 => .array .long
  | 16 => .array .int
  | 17 => .int
  | 18 => .array .int
  | 19 => .array .long
  | 20 => .array .int
  | 21 => .int
  | 22 => .int
  | 23 => .int
  | _ => .array .int
abbrev wsX50 : List Cond := u_ws RX5 TX5 25
set_option maxRecDepth 100000 in
theorem nmX5 : ∀ a, a < 25 → ∀ b, b < 25 → a ≠ b → (TX5 a).2.1 ≠ (TX5 b).2.1 := by decide +kernel
set_option maxRecDepth 100000 in
theorem tyX5_ok : ∀ k, k < 25 → parseFieldDescriptor (TX5 k).2.2.1 = some (tyX5 k) := by decide +kernel
abbrev cX5_init : ByteArray := prog_13_method_1_code
def yX5_init : MethodName := ⟨RX5, "<init>", "()V"⟩
def dkwX5_init_4 : List UInt8 := [42, 17, 0, 150, 188, 10, 181, 0, 44, 42, 16, 36, 188, 10, 181, 0, 47, 42, 4, 4, 182, 0, 50, 177]
abbrev dktX5_init_4 : List UInt8 := dkwX5_init_4 ++ []
def dkwX5_init_3 : List UInt8 := [42, 16, 36, 188, 10, 181, 0, 35, 42, 16, 36, 188, 10, 181, 0, 38, 42, 16, 36, 188, 11, 181, 0, 41]
abbrev dktX5_init_3 : List UInt8 := dkwX5_init_3 ++ dktX5_init_4
def dkwX5_init_2 : List UInt8 := [42, 16, 72, 188, 11, 181, 0, 26, 42, 16, 36, 188, 10, 181, 0, 29, 42, 16, 36, 188, 11, 181, 0, 32]
abbrev dktX5_init_2 : List UInt8 := dkwX5_init_2 ++ dktX5_init_3
def dkwX5_init_1 : List UInt8 := [17, 2, 1, 188, 11, 181, 0, 16, 42, 16, 36, 188, 11, 181, 0, 19, 42, 16, 72, 188, 10, 181, 0, 22]
abbrev dktX5_init_1 : List UInt8 := dkwX5_init_1 ++ dktX5_init_2
def dkwX5_init_0 : List UInt8 := [42, 183, 0, 1, 42, 17, 2, 1, 188, 11, 181, 0, 7, 42, 17, 8, 4, 188, 11, 181, 0, 13, 42]
abbrev dktX5_init_0 : List UInt8 := dkwX5_init_0 ++ dktX5_init_1
theorem dksX5_init_0 : cX5_init.data.toList.drop 0 = dktX5_init_0 := by decide +kernel
theorem dksX5_init_1 : cX5_init.data.toList.drop 23 = dktX5_init_1 := dk_seg dksX5_init_0 23 rfl rfl
theorem dksX5_init_2 : cX5_init.data.toList.drop 47 = dktX5_init_2 := dk_seg dksX5_init_1 24 rfl rfl
theorem dksX5_init_3 : cX5_init.data.toList.drop 71 = dktX5_init_3 := dk_seg dksX5_init_2 24 rfl rfl
theorem dksX5_init_4 : cX5_init.data.toList.drop 95 = dktX5_init_4 := dk_seg dksX5_init_3 24 rfl rfl
theorem dX5_init_0 : decode cX5_init 0 = .ok (.aload_n 0, 1) := dk_42 (dk_at dksX5_init_0 0 rfl rfl)
theorem dX5_init_1 : decode cX5_init 1 = .ok (.invokespecial 1, 3) := dk_183 0 1 (dk_at dksX5_init_0 1 rfl rfl)
theorem dX5_init_4 : decode cX5_init 4 = .ok (.aload_n 0, 1) := dk_42 (dk_at dksX5_init_0 4 rfl rfl)
theorem dX5_init_5 : decode cX5_init 5 = .ok (.sipush 513, 3) := dk_17 2 1 (dk_at dksX5_init_0 5 rfl rfl)
theorem dX5_init_8 : decode cX5_init 8 = .ok (.newarray .long, 2) := dk_188_11 (dk_at dksX5_init_0 8 rfl rfl)
theorem dX5_init_10 : decode cX5_init 10 = .ok (.putfield 7, 3) := dk_181 0 7 (dk_at dksX5_init_0 10 rfl rfl)
theorem dX5_init_13 : decode cX5_init 13 = .ok (.aload_n 0, 1) := dk_42 (dk_at dksX5_init_0 13 rfl rfl)
theorem dX5_init_14 : decode cX5_init 14 = .ok (.sipush 2052, 3) := dk_17 8 4 (dk_at dksX5_init_0 14 rfl rfl)
theorem dX5_init_17 : decode cX5_init 17 = .ok (.newarray .long, 2) := dk_188_11 (dk_at dksX5_init_0 17 rfl rfl)
theorem dX5_init_19 : decode cX5_init 19 = .ok (.putfield 13, 3) := dk_181 0 13 (dk_at dksX5_init_0 19 rfl rfl)
theorem dX5_init_22 : decode cX5_init 22 = .ok (.aload_n 0, 1) := dk_42 (dk_at dksX5_init_0 22 rfl rfl)
theorem dX5_init_23 : decode cX5_init 23 = .ok (.sipush 513, 3) := dk_17 2 1 (dk_at dksX5_init_1 0 rfl rfl)
theorem dX5_init_26 : decode cX5_init 26 = .ok (.newarray .long, 2) := dk_188_11 (dk_at dksX5_init_1 3 rfl rfl)
theorem dX5_init_28 : decode cX5_init 28 = .ok (.putfield 16, 3) := dk_181 0 16 (dk_at dksX5_init_1 5 rfl rfl)
theorem dX5_init_31 : decode cX5_init 31 = .ok (.aload_n 0, 1) := dk_42 (dk_at dksX5_init_1 8 rfl rfl)
theorem dX5_init_32 : decode cX5_init 32 = .ok (.bipush 36, 2) := dk_16 36 (dk_at dksX5_init_1 9 rfl rfl)
theorem dX5_init_34 : decode cX5_init 34 = .ok (.newarray .long, 2) := dk_188_11 (dk_at dksX5_init_1 11 rfl rfl)
theorem dX5_init_36 : decode cX5_init 36 = .ok (.putfield 19, 3) := dk_181 0 19 (dk_at dksX5_init_1 13 rfl rfl)
theorem dX5_init_39 : decode cX5_init 39 = .ok (.aload_n 0, 1) := dk_42 (dk_at dksX5_init_1 16 rfl rfl)
theorem dX5_init_40 : decode cX5_init 40 = .ok (.bipush 72, 2) := dk_16 72 (dk_at dksX5_init_1 17 rfl rfl)
theorem dX5_init_42 : decode cX5_init 42 = .ok (.newarray .int, 2) := dk_188_10 (dk_at dksX5_init_1 19 rfl rfl)
theorem dX5_init_44 : decode cX5_init 44 = .ok (.putfield 22, 3) := dk_181 0 22 (dk_at dksX5_init_1 21 rfl rfl)
theorem dX5_init_47 : decode cX5_init 47 = .ok (.aload_n 0, 1) := dk_42 (dk_at dksX5_init_2 0 rfl rfl)
theorem dX5_init_48 : decode cX5_init 48 = .ok (.bipush 72, 2) := dk_16 72 (dk_at dksX5_init_2 1 rfl rfl)
theorem dX5_init_50 : decode cX5_init 50 = .ok (.newarray .long, 2) := dk_188_11 (dk_at dksX5_init_2 3 rfl rfl)
theorem dX5_init_52 : decode cX5_init 52 = .ok (.putfield 26, 3) := dk_181 0 26 (dk_at dksX5_init_2 5 rfl rfl)
theorem dX5_init_55 : decode cX5_init 55 = .ok (.aload_n 0, 1) := dk_42 (dk_at dksX5_init_2 8 rfl rfl)
theorem dX5_init_56 : decode cX5_init 56 = .ok (.bipush 36, 2) := dk_16 36 (dk_at dksX5_init_2 9 rfl rfl)
theorem dX5_init_58 : decode cX5_init 58 = .ok (.newarray .int, 2) := dk_188_10 (dk_at dksX5_init_2 11 rfl rfl)
theorem dX5_init_60 : decode cX5_init 60 = .ok (.putfield 29, 3) := dk_181 0 29 (dk_at dksX5_init_2 13 rfl rfl)
theorem dX5_init_63 : decode cX5_init 63 = .ok (.aload_n 0, 1) := dk_42 (dk_at dksX5_init_2 16 rfl rfl)
theorem dX5_init_64 : decode cX5_init 64 = .ok (.bipush 36, 2) := dk_16 36 (dk_at dksX5_init_2 17 rfl rfl)
theorem dX5_init_66 : decode cX5_init 66 = .ok (.newarray .long, 2) := dk_188_11 (dk_at dksX5_init_2 19 rfl rfl)
theorem dX5_init_68 : decode cX5_init 68 = .ok (.putfield 32, 3) := dk_181 0 32 (dk_at dksX5_init_2 21 rfl rfl)
theorem dX5_init_71 : decode cX5_init 71 = .ok (.aload_n 0, 1) := dk_42 (dk_at dksX5_init_3 0 rfl rfl)
theorem dX5_init_72 : decode cX5_init 72 = .ok (.bipush 36, 2) := dk_16 36 (dk_at dksX5_init_3 1 rfl rfl)
theorem dX5_init_74 : decode cX5_init 74 = .ok (.newarray .int, 2) := dk_188_10 (dk_at dksX5_init_3 3 rfl rfl)
theorem dX5_init_76 : decode cX5_init 76 = .ok (.putfield 35, 3) := dk_181 0 35 (dk_at dksX5_init_3 5 rfl rfl)
theorem dX5_init_79 : decode cX5_init 79 = .ok (.aload_n 0, 1) := dk_42 (dk_at dksX5_init_3 8 rfl rfl)
theorem dX5_init_80 : decode cX5_init 80 = .ok (.bipush 36, 2) := dk_16 36 (dk_at dksX5_init_3 9 rfl rfl)
theorem dX5_init_82 : decode cX5_init 82 = .ok (.newarray .int, 2) := dk_188_10 (dk_at dksX5_init_3 11 rfl rfl)
theorem dX5_init_84 : decode cX5_init 84 = .ok (.putfield 38, 3) := dk_181 0 38 (dk_at dksX5_init_3 13 rfl rfl)
theorem dX5_init_87 : decode cX5_init 87 = .ok (.aload_n 0, 1) := dk_42 (dk_at dksX5_init_3 16 rfl rfl)
theorem dX5_init_88 : decode cX5_init 88 = .ok (.bipush 36, 2) := dk_16 36 (dk_at dksX5_init_3 17 rfl rfl)
theorem dX5_init_90 : decode cX5_init 90 = .ok (.newarray .long, 2) := dk_188_11 (dk_at dksX5_init_3 19 rfl rfl)
theorem dX5_init_92 : decode cX5_init 92 = .ok (.putfield 41, 3) := dk_181 0 41 (dk_at dksX5_init_3 21 rfl rfl)
theorem dX5_init_95 : decode cX5_init 95 = .ok (.aload_n 0, 1) := dk_42 (dk_at dksX5_init_4 0 rfl rfl)
theorem dX5_init_96 : decode cX5_init 96 = .ok (.sipush 150, 3) := dk_17 0 150 (dk_at dksX5_init_4 1 rfl rfl)
theorem dX5_init_99 : decode cX5_init 99 = .ok (.newarray .int, 2) := dk_188_10 (dk_at dksX5_init_4 4 rfl rfl)
theorem dX5_init_101 : decode cX5_init 101 = .ok (.putfield 44, 3) := dk_181 0 44 (dk_at dksX5_init_4 6 rfl rfl)
theorem dX5_init_104 : decode cX5_init 104 = .ok (.aload_n 0, 1) := dk_42 (dk_at dksX5_init_4 9 rfl rfl)
theorem dX5_init_105 : decode cX5_init 105 = .ok (.bipush 36, 2) := dk_16 36 (dk_at dksX5_init_4 10 rfl rfl)
theorem dX5_init_107 : decode cX5_init 107 = .ok (.newarray .int, 2) := dk_188_10 (dk_at dksX5_init_4 12 rfl rfl)
theorem dX5_init_109 : decode cX5_init 109 = .ok (.putfield 47, 3) := dk_181 0 47 (dk_at dksX5_init_4 14 rfl rfl)
theorem dX5_init_112 : decode cX5_init 112 = .ok (.aload_n 0, 1) := dk_42 (dk_at dksX5_init_4 17 rfl rfl)
theorem dX5_init_113 : decode cX5_init 113 = .ok (.iconst 1, 1) := dk_4 (dk_at dksX5_init_4 18 rfl rfl)
theorem dX5_init_114 : decode cX5_init 114 = .ok (.iconst 1, 1) := dk_4 (dk_at dksX5_init_4 19 rfl rfl)
theorem dX5_init_115 : decode cX5_init 115 = .ok (.invokevirtual 50, 3) := dk_182 0 50 (dk_at dksX5_init_4 20 rfl rfl)
theorem dX5_init_118 : decode cX5_init 118 = .ok (.return_, 1) := dk_177 (dk_at dksX5_init_4 23 rfl rfl)
abbrev cX5_begins : ByteArray := prog_13_method_45_code
def yX5_begins : MethodName := ⟨RX5, "begins", "(II)V"⟩
def dkwX5_begins_2 : List UInt8 := [80, 42, 180, 0, 7, 4, 28, 133, 80, 42, 182, 0, 174, 177]
abbrev dktX5_begins_2 : List UInt8 := dkwX5_begins_2 ++ []
def dkwX5_begins_1 : List UInt8 := [162, 0, 9, 20, 0, 109, 167, 0, 4, 9, 80, 132, 3, 1, 167, 255, 221, 42, 180, 0, 7, 3, 27, 133]
abbrev dktX5_begins_1 : List UInt8 := dkwX5_begins_1 ++ dktX5_begins_2
def dkwX5_begins_0 : List UInt8 := [3, 62, 29, 17, 2, 1, 162, 0, 34, 42, 180, 0, 7, 29, 29, 16, 44, 161, 0, 15, 29, 16, 116]
abbrev dktX5_begins_0 : List UInt8 := dkwX5_begins_0 ++ dktX5_begins_1
theorem dksX5_begins_0 : cX5_begins.data.toList.drop 0 = dktX5_begins_0 := by decide +kernel
theorem dksX5_begins_1 : cX5_begins.data.toList.drop 23 = dktX5_begins_1 := dk_seg dksX5_begins_0 23 rfl rfl
theorem dksX5_begins_2 : cX5_begins.data.toList.drop 47 = dktX5_begins_2 := dk_seg dksX5_begins_1 24 rfl rfl
theorem dX5_begins_0 : decode cX5_begins 0 = .ok (.iconst 0, 1) := dk_3 (dk_at dksX5_begins_0 0 rfl rfl)
theorem dX5_begins_1 : decode cX5_begins 1 = .ok (.istore_n 3, 1) := dk_62 (dk_at dksX5_begins_0 1 rfl rfl)
theorem dX5_begins_2 : decode cX5_begins 2 = .ok (.iload_n 3, 1) := dk_29 (dk_at dksX5_begins_0 2 rfl rfl)
theorem dX5_begins_3 : decode cX5_begins 3 = .ok (.sipush 513, 3) := dk_17 2 1 (dk_at dksX5_begins_0 3 rfl rfl)
theorem dX5_begins_6 : decode cX5_begins 6 = .ok (.if_icmp .ge 34, 3) := dk_162 0 34 (dk_at dksX5_begins_0 6 rfl rfl)
theorem dX5_begins_9 : decode cX5_begins 9 = .ok (.aload_n 0, 1) := dk_42 (dk_at dksX5_begins_0 9 rfl rfl)
theorem dX5_begins_10 : decode cX5_begins 10 = .ok (.getfield 7, 3) := dk_180 0 7 (dk_at dksX5_begins_0 10 rfl rfl)
theorem dX5_begins_13 : decode cX5_begins 13 = .ok (.iload_n 3, 1) := dk_29 (dk_at dksX5_begins_0 13 rfl rfl)
theorem dX5_begins_14 : decode cX5_begins 14 = .ok (.iload_n 3, 1) := dk_29 (dk_at dksX5_begins_0 14 rfl rfl)
theorem dX5_begins_15 : decode cX5_begins 15 = .ok (.bipush 44, 2) := dk_16 44 (dk_at dksX5_begins_0 15 rfl rfl)
theorem dX5_begins_17 : decode cX5_begins 17 = .ok (.if_icmp .lt 15, 3) := dk_161 0 15 (dk_at dksX5_begins_0 17 rfl rfl)
theorem dX5_begins_20 : decode cX5_begins 20 = .ok (.iload_n 3, 1) := dk_29 (dk_at dksX5_begins_0 20 rfl rfl)
theorem dX5_begins_21 : decode cX5_begins 21 = .ok (.bipush 116, 2) := dk_16 116 (dk_at dksX5_begins_0 21 rfl rfl)
theorem dX5_begins_23 : decode cX5_begins 23 = .ok (.if_icmp .ge 9, 3) := dk_162 0 9 (dk_at dksX5_begins_1 0 rfl rfl)
theorem dX5_begins_26 : decode cX5_begins 26 = .ok (.ldc2_w 109, 3) := dk_20 0 109 (dk_at dksX5_begins_1 3 rfl rfl)
theorem dX5_begins_29 : decode cX5_begins 29 = .ok (.goto 4, 3) := dk_167 0 4 (dk_at dksX5_begins_1 6 rfl rfl)
theorem dX5_begins_32 : decode cX5_begins 32 = .ok (.lconst 0, 1) := dk_9 (dk_at dksX5_begins_1 9 rfl rfl)
theorem dX5_begins_33 : decode cX5_begins 33 = .ok (.lastore, 1) := dk_80 (dk_at dksX5_begins_1 10 rfl rfl)
theorem dX5_begins_34 : decode cX5_begins 34 = .ok (.iinc 3 1, 3) := dk_132 3 1 (dk_at dksX5_begins_1 11 rfl rfl)
theorem dX5_begins_37 : decode cX5_begins 37 = .ok (.goto (-35), 3) := dk_167 255 221 (dk_at dksX5_begins_1 14 rfl rfl)
theorem dX5_begins_40 : decode cX5_begins 40 = .ok (.aload_n 0, 1) := dk_42 (dk_at dksX5_begins_1 17 rfl rfl)
theorem dX5_begins_41 : decode cX5_begins 41 = .ok (.getfield 7, 3) := dk_180 0 7 (dk_at dksX5_begins_1 18 rfl rfl)
theorem dX5_begins_44 : decode cX5_begins 44 = .ok (.iconst 0, 1) := dk_3 (dk_at dksX5_begins_1 21 rfl rfl)
theorem dX5_begins_45 : decode cX5_begins 45 = .ok (.iload_n 1, 1) := dk_27 (dk_at dksX5_begins_1 22 rfl rfl)
theorem dX5_begins_46 : decode cX5_begins 46 = .ok (.i2l, 1) := dk_133 (dk_at dksX5_begins_1 23 rfl rfl)
theorem dX5_begins_47 : decode cX5_begins 47 = .ok (.lastore, 1) := dk_80 (dk_at dksX5_begins_2 0 rfl rfl)
theorem dX5_begins_48 : decode cX5_begins 48 = .ok (.aload_n 0, 1) := dk_42 (dk_at dksX5_begins_2 1 rfl rfl)
theorem dX5_begins_49 : decode cX5_begins 49 = .ok (.getfield 7, 3) := dk_180 0 7 (dk_at dksX5_begins_2 2 rfl rfl)
theorem dX5_begins_52 : decode cX5_begins 52 = .ok (.iconst 1, 1) := dk_4 (dk_at dksX5_begins_2 5 rfl rfl)
theorem dX5_begins_53 : decode cX5_begins 53 = .ok (.iload_n 2, 1) := dk_28 (dk_at dksX5_begins_2 6 rfl rfl)
theorem dX5_begins_54 : decode cX5_begins 54 = .ok (.i2l, 1) := dk_133 (dk_at dksX5_begins_2 7 rfl rfl)
theorem dX5_begins_55 : decode cX5_begins 55 = .ok (.lastore, 1) := dk_80 (dk_at dksX5_begins_2 8 rfl rfl)
theorem dX5_begins_56 : decode cX5_begins 56 = .ok (.aload_n 0, 1) := dk_42 (dk_at dksX5_begins_2 9 rfl rfl)
theorem dX5_begins_57 : decode cX5_begins 57 = .ok (.invokevirtual 174, 3) := dk_182 0 174 (dk_at dksX5_begins_2 10 rfl rfl)
theorem dX5_begins_60 : decode cX5_begins 60 = .ok (.return_, 1) := dk_177 (dk_at dksX5_begins_2 13 rfl rfl)
abbrev cX5_finds : ByteArray := prog_13_method_22_code
def yX5_finds : MethodName := ⟨RX5, "finds", "()V"⟩
def dkwX5_finds_10 : List UInt8 := [132, 1, 1, 132, 2, 1, 167, 255, 85, 42, 180, 0, 7, 16, 6, 27, 133, 80, 177]
abbrev dktX5_finds_10 : List UInt8 := dkwX5_finds_10 ++ []
def dkwX5_finds_9 : List UInt8 := [17, 2, 0, 92, 47, 42, 180, 0, 19, 28, 47, 129, 80, 42, 180, 0, 7, 17, 1, 184, 27, 96, 10, 80]
abbrev dktX5_finds_9 : List UInt8 := dkwX5_finds_9 ++ dktX5_finds_10
def dkwX5_finds_8 : List UInt8 := [153, 0, 9, 10, 29, 121, 167, 0, 4, 9, 129, 80, 132, 3, 1, 167, 255, 169, 42, 180, 0, 7]
abbrev dktX5_finds_8 : List UInt8 := dkwX5_finds_8 ++ dktX5_finds_9
def dkwX5_finds_7 : List UInt8 := [42, 180, 0, 7, 16, 116, 29, 96, 47, 80, 42, 180, 0, 7, 17, 0, 152, 27, 96, 92, 47, 21, 4]
abbrev dktX5_finds_7 : List UInt8 := dkwX5_finds_7 ++ dktX5_finds_8
def dkwX5_finds_6 : List UInt8 := [167, 0, 4, 3, 54, 4, 42, 180, 0, 7, 16, 116, 29, 96, 21, 4, 153, 0, 8, 27, 133, 167, 0, 12]
abbrev dktX5_finds_6 : List UInt8 := dkwX5_finds_6 ++ dktX5_finds_7
def dkwX5_finds_5 : List UInt8 := [182, 0, 61, 162, 0, 85, 42, 180, 0, 19, 29, 47, 42, 180, 0, 19, 28, 47, 148, 154, 0, 7, 4]
abbrev dktX5_finds_5 : List UInt8 := dkwX5_finds_5 ++ dktX5_finds_6
def dkwX5_finds_4 : List UInt8 := [184, 0, 91, 153, 0, 139, 42, 180, 0, 19, 28, 47, 184, 0, 111, 28, 160, 0, 126, 3, 62, 29, 42]
abbrev dktX5_finds_4 : List UInt8 := dkwX5_finds_4 ++ dktX5_finds_5
def dkwX5_finds_3 : List UInt8 := [182, 0, 61, 162, 0, 169, 42, 180, 0, 19, 28, 47, 9, 148, 153, 0, 152, 42, 180, 0, 19, 28, 47, 28]
abbrev dktX5_finds_3 : List UInt8 := dkwX5_finds_3 ++ dktX5_finds_4
def dkwX5_finds_2 : List UInt8 := [180, 0, 7, 16, 116, 27, 96, 20, 0, 109, 80, 132, 1, 1, 167, 255, 222, 3, 60, 3, 61, 28, 42]
abbrev dktX5_finds_2 : List UInt8 := dkwX5_finds_2 ++ dktX5_finds_3
def dkwX5_finds_1 : List UInt8 := [3, 60, 27, 42, 182, 0, 61, 162, 0, 32, 42, 180, 0, 19, 27, 42, 27, 182, 0, 106, 80, 42]
abbrev dktX5_finds_1 : List UInt8 := dkwX5_finds_1 ++ dktX5_finds_2
def dkwX5_finds_0 : List UInt8 := [17, 0, 152, 60, 27, 17, 2, 1, 162, 0, 16, 42, 180, 0, 7, 27, 9, 80, 132, 1, 1, 167, 255, 239]
abbrev dktX5_finds_0 : List UInt8 := dkwX5_finds_0 ++ dktX5_finds_1
theorem dksX5_finds_0 : cX5_finds.data.toList.drop 0 = dktX5_finds_0 := by decide +kernel
theorem dksX5_finds_1 : cX5_finds.data.toList.drop 24 = dktX5_finds_1 := dk_seg dksX5_finds_0 24 rfl rfl
theorem dksX5_finds_2 : cX5_finds.data.toList.drop 46 = dktX5_finds_2 := dk_seg dksX5_finds_1 22 rfl rfl
theorem dksX5_finds_3 : cX5_finds.data.toList.drop 69 = dktX5_finds_3 := dk_seg dksX5_finds_2 23 rfl rfl
theorem dksX5_finds_4 : cX5_finds.data.toList.drop 93 = dktX5_finds_4 := dk_seg dksX5_finds_3 24 rfl rfl
theorem dksX5_finds_5 : cX5_finds.data.toList.drop 116 = dktX5_finds_5 := dk_seg dksX5_finds_4 23 rfl rfl
theorem dksX5_finds_6 : cX5_finds.data.toList.drop 139 = dktX5_finds_6 := dk_seg dksX5_finds_5 23 rfl rfl
theorem dksX5_finds_7 : cX5_finds.data.toList.drop 163 = dktX5_finds_7 := dk_seg dksX5_finds_6 24 rfl rfl
theorem dksX5_finds_8 : cX5_finds.data.toList.drop 186 = dktX5_finds_8 := dk_seg dksX5_finds_7 23 rfl rfl
theorem dksX5_finds_9 : cX5_finds.data.toList.drop 208 = dktX5_finds_9 := dk_seg dksX5_finds_8 22 rfl rfl
theorem dksX5_finds_10 : cX5_finds.data.toList.drop 232 = dktX5_finds_10 := dk_seg dksX5_finds_9 24 rfl rfl
theorem dX5_finds_0 : decode cX5_finds 0 = .ok (.sipush 152, 3) := dk_17 0 152 (dk_at dksX5_finds_0 0 rfl rfl)
theorem dX5_finds_3 : decode cX5_finds 3 = .ok (.istore_n 1, 1) := dk_60 (dk_at dksX5_finds_0 3 rfl rfl)
theorem dX5_finds_4 : decode cX5_finds 4 = .ok (.iload_n 1, 1) := dk_27 (dk_at dksX5_finds_0 4 rfl rfl)
theorem dX5_finds_5 : decode cX5_finds 5 = .ok (.sipush 513, 3) := dk_17 2 1 (dk_at dksX5_finds_0 5 rfl rfl)
theorem dX5_finds_8 : decode cX5_finds 8 = .ok (.if_icmp .ge 16, 3) := dk_162 0 16 (dk_at dksX5_finds_0 8 rfl rfl)
theorem dX5_finds_11 : decode cX5_finds 11 = .ok (.aload_n 0, 1) := dk_42 (dk_at dksX5_finds_0 11 rfl rfl)
theorem dX5_finds_12 : decode cX5_finds 12 = .ok (.getfield 7, 3) := dk_180 0 7 (dk_at dksX5_finds_0 12 rfl rfl)
theorem dX5_finds_15 : decode cX5_finds 15 = .ok (.iload_n 1, 1) := dk_27 (dk_at dksX5_finds_0 15 rfl rfl)
theorem dX5_finds_16 : decode cX5_finds 16 = .ok (.lconst 0, 1) := dk_9 (dk_at dksX5_finds_0 16 rfl rfl)
theorem dX5_finds_17 : decode cX5_finds 17 = .ok (.lastore, 1) := dk_80 (dk_at dksX5_finds_0 17 rfl rfl)
theorem dX5_finds_18 : decode cX5_finds 18 = .ok (.iinc 1 1, 3) := dk_132 1 1 (dk_at dksX5_finds_0 18 rfl rfl)
theorem dX5_finds_21 : decode cX5_finds 21 = .ok (.goto (-17), 3) := dk_167 255 239 (dk_at dksX5_finds_0 21 rfl rfl)
theorem dX5_finds_24 : decode cX5_finds 24 = .ok (.iconst 0, 1) := dk_3 (dk_at dksX5_finds_1 0 rfl rfl)
theorem dX5_finds_25 : decode cX5_finds 25 = .ok (.istore_n 1, 1) := dk_60 (dk_at dksX5_finds_1 1 rfl rfl)
theorem dX5_finds_26 : decode cX5_finds 26 = .ok (.iload_n 1, 1) := dk_27 (dk_at dksX5_finds_1 2 rfl rfl)
theorem dX5_finds_27 : decode cX5_finds 27 = .ok (.aload_n 0, 1) := dk_42 (dk_at dksX5_finds_1 3 rfl rfl)
theorem dX5_finds_28 : decode cX5_finds 28 = .ok (.invokevirtual 61, 3) := dk_182 0 61 (dk_at dksX5_finds_1 4 rfl rfl)
theorem dX5_finds_31 : decode cX5_finds 31 = .ok (.if_icmp .ge 32, 3) := dk_162 0 32 (dk_at dksX5_finds_1 7 rfl rfl)
theorem dX5_finds_34 : decode cX5_finds 34 = .ok (.aload_n 0, 1) := dk_42 (dk_at dksX5_finds_1 10 rfl rfl)
theorem dX5_finds_35 : decode cX5_finds 35 = .ok (.getfield 19, 3) := dk_180 0 19 (dk_at dksX5_finds_1 11 rfl rfl)
theorem dX5_finds_38 : decode cX5_finds 38 = .ok (.iload_n 1, 1) := dk_27 (dk_at dksX5_finds_1 14 rfl rfl)
theorem dX5_finds_39 : decode cX5_finds 39 = .ok (.aload_n 0, 1) := dk_42 (dk_at dksX5_finds_1 15 rfl rfl)
theorem dX5_finds_40 : decode cX5_finds 40 = .ok (.iload_n 1, 1) := dk_27 (dk_at dksX5_finds_1 16 rfl rfl)
theorem dX5_finds_41 : decode cX5_finds 41 = .ok (.invokevirtual 106, 3) := dk_182 0 106 (dk_at dksX5_finds_1 17 rfl rfl)
theorem dX5_finds_44 : decode cX5_finds 44 = .ok (.lastore, 1) := dk_80 (dk_at dksX5_finds_1 20 rfl rfl)
theorem dX5_finds_45 : decode cX5_finds 45 = .ok (.aload_n 0, 1) := dk_42 (dk_at dksX5_finds_1 21 rfl rfl)
theorem dX5_finds_46 : decode cX5_finds 46 = .ok (.getfield 7, 3) := dk_180 0 7 (dk_at dksX5_finds_2 0 rfl rfl)
theorem dX5_finds_49 : decode cX5_finds 49 = .ok (.bipush 116, 2) := dk_16 116 (dk_at dksX5_finds_2 3 rfl rfl)
theorem dX5_finds_51 : decode cX5_finds 51 = .ok (.iload_n 1, 1) := dk_27 (dk_at dksX5_finds_2 5 rfl rfl)
theorem dX5_finds_52 : decode cX5_finds 52 = .ok (.iadd, 1) := dk_96 (dk_at dksX5_finds_2 6 rfl rfl)
theorem dX5_finds_53 : decode cX5_finds 53 = .ok (.ldc2_w 109, 3) := dk_20 0 109 (dk_at dksX5_finds_2 7 rfl rfl)
theorem dX5_finds_56 : decode cX5_finds 56 = .ok (.lastore, 1) := dk_80 (dk_at dksX5_finds_2 10 rfl rfl)
theorem dX5_finds_57 : decode cX5_finds 57 = .ok (.iinc 1 1, 3) := dk_132 1 1 (dk_at dksX5_finds_2 11 rfl rfl)
theorem dX5_finds_60 : decode cX5_finds 60 = .ok (.goto (-34), 3) := dk_167 255 222 (dk_at dksX5_finds_2 14 rfl rfl)
theorem dX5_finds_63 : decode cX5_finds 63 = .ok (.iconst 0, 1) := dk_3 (dk_at dksX5_finds_2 17 rfl rfl)
theorem dX5_finds_64 : decode cX5_finds 64 = .ok (.istore_n 1, 1) := dk_60 (dk_at dksX5_finds_2 18 rfl rfl)
theorem dX5_finds_65 : decode cX5_finds 65 = .ok (.iconst 0, 1) := dk_3 (dk_at dksX5_finds_2 19 rfl rfl)
theorem dX5_finds_66 : decode cX5_finds 66 = .ok (.istore_n 2, 1) := dk_61 (dk_at dksX5_finds_2 20 rfl rfl)
theorem dX5_finds_67 : decode cX5_finds 67 = .ok (.iload_n 2, 1) := dk_28 (dk_at dksX5_finds_2 21 rfl rfl)
theorem dX5_finds_68 : decode cX5_finds 68 = .ok (.aload_n 0, 1) := dk_42 (dk_at dksX5_finds_2 22 rfl rfl)
theorem dX5_finds_69 : decode cX5_finds 69 = .ok (.invokevirtual 61, 3) := dk_182 0 61 (dk_at dksX5_finds_3 0 rfl rfl)
theorem dX5_finds_72 : decode cX5_finds 72 = .ok (.if_icmp .ge 169, 3) := dk_162 0 169 (dk_at dksX5_finds_3 3 rfl rfl)
theorem dX5_finds_75 : decode cX5_finds 75 = .ok (.aload_n 0, 1) := dk_42 (dk_at dksX5_finds_3 6 rfl rfl)
theorem dX5_finds_76 : decode cX5_finds 76 = .ok (.getfield 19, 3) := dk_180 0 19 (dk_at dksX5_finds_3 7 rfl rfl)
theorem dX5_finds_79 : decode cX5_finds 79 = .ok (.iload_n 2, 1) := dk_28 (dk_at dksX5_finds_3 10 rfl rfl)
theorem dX5_finds_80 : decode cX5_finds 80 = .ok (.laload, 1) := dk_47 (dk_at dksX5_finds_3 11 rfl rfl)
theorem dX5_finds_81 : decode cX5_finds 81 = .ok (.lconst 0, 1) := dk_9 (dk_at dksX5_finds_3 12 rfl rfl)
theorem dX5_finds_82 : decode cX5_finds 82 = .ok (.lcmp, 1) := dk_148 (dk_at dksX5_finds_3 13 rfl rfl)
theorem dX5_finds_83 : decode cX5_finds 83 = .ok (.ifCond .eq 152, 3) := dk_153 0 152 (dk_at dksX5_finds_3 14 rfl rfl)
theorem dX5_finds_86 : decode cX5_finds 86 = .ok (.aload_n 0, 1) := dk_42 (dk_at dksX5_finds_3 17 rfl rfl)
theorem dX5_finds_87 : decode cX5_finds 87 = .ok (.getfield 19, 3) := dk_180 0 19 (dk_at dksX5_finds_3 18 rfl rfl)
theorem dX5_finds_90 : decode cX5_finds 90 = .ok (.iload_n 2, 1) := dk_28 (dk_at dksX5_finds_3 21 rfl rfl)
theorem dX5_finds_91 : decode cX5_finds 91 = .ok (.laload, 1) := dk_47 (dk_at dksX5_finds_3 22 rfl rfl)
theorem dX5_finds_92 : decode cX5_finds 92 = .ok (.iload_n 2, 1) := dk_28 (dk_at dksX5_finds_3 23 rfl rfl)
theorem dX5_finds_93 : decode cX5_finds 93 = .ok (.invokestatic 91, 3) := dk_184 0 91 (dk_at dksX5_finds_4 0 rfl rfl)
theorem dX5_finds_96 : decode cX5_finds 96 = .ok (.ifCond .eq 139, 3) := dk_153 0 139 (dk_at dksX5_finds_4 3 rfl rfl)
theorem dX5_finds_99 : decode cX5_finds 99 = .ok (.aload_n 0, 1) := dk_42 (dk_at dksX5_finds_4 6 rfl rfl)
theorem dX5_finds_100 : decode cX5_finds 100 = .ok (.getfield 19, 3) := dk_180 0 19 (dk_at dksX5_finds_4 7 rfl rfl)
theorem dX5_finds_103 : decode cX5_finds 103 = .ok (.iload_n 2, 1) := dk_28 (dk_at dksX5_finds_4 10 rfl rfl)
theorem dX5_finds_104 : decode cX5_finds 104 = .ok (.laload, 1) := dk_47 (dk_at dksX5_finds_4 11 rfl rfl)
theorem dX5_finds_105 : decode cX5_finds 105 = .ok (.invokestatic 111, 3) := dk_184 0 111 (dk_at dksX5_finds_4 12 rfl rfl)
theorem dX5_finds_108 : decode cX5_finds 108 = .ok (.iload_n 2, 1) := dk_28 (dk_at dksX5_finds_4 15 rfl rfl)
theorem dX5_finds_109 : decode cX5_finds 109 = .ok (.if_icmp .ne 126, 3) := dk_160 0 126 (dk_at dksX5_finds_4 16 rfl rfl)
theorem dX5_finds_112 : decode cX5_finds 112 = .ok (.iconst 0, 1) := dk_3 (dk_at dksX5_finds_4 19 rfl rfl)
theorem dX5_finds_113 : decode cX5_finds 113 = .ok (.istore_n 3, 1) := dk_62 (dk_at dksX5_finds_4 20 rfl rfl)
theorem dX5_finds_114 : decode cX5_finds 114 = .ok (.iload_n 3, 1) := dk_29 (dk_at dksX5_finds_4 21 rfl rfl)
theorem dX5_finds_115 : decode cX5_finds 115 = .ok (.aload_n 0, 1) := dk_42 (dk_at dksX5_finds_4 22 rfl rfl)
theorem dX5_finds_116 : decode cX5_finds 116 = .ok (.invokevirtual 61, 3) := dk_182 0 61 (dk_at dksX5_finds_5 0 rfl rfl)
theorem dX5_finds_119 : decode cX5_finds 119 = .ok (.if_icmp .ge 85, 3) := dk_162 0 85 (dk_at dksX5_finds_5 3 rfl rfl)
theorem dX5_finds_122 : decode cX5_finds 122 = .ok (.aload_n 0, 1) := dk_42 (dk_at dksX5_finds_5 6 rfl rfl)
theorem dX5_finds_123 : decode cX5_finds 123 = .ok (.getfield 19, 3) := dk_180 0 19 (dk_at dksX5_finds_5 7 rfl rfl)
theorem dX5_finds_126 : decode cX5_finds 126 = .ok (.iload_n 3, 1) := dk_29 (dk_at dksX5_finds_5 10 rfl rfl)
theorem dX5_finds_127 : decode cX5_finds 127 = .ok (.laload, 1) := dk_47 (dk_at dksX5_finds_5 11 rfl rfl)
theorem dX5_finds_128 : decode cX5_finds 128 = .ok (.aload_n 0, 1) := dk_42 (dk_at dksX5_finds_5 12 rfl rfl)
theorem dX5_finds_129 : decode cX5_finds 129 = .ok (.getfield 19, 3) := dk_180 0 19 (dk_at dksX5_finds_5 13 rfl rfl)
theorem dX5_finds_132 : decode cX5_finds 132 = .ok (.iload_n 2, 1) := dk_28 (dk_at dksX5_finds_5 16 rfl rfl)
theorem dX5_finds_133 : decode cX5_finds 133 = .ok (.laload, 1) := dk_47 (dk_at dksX5_finds_5 17 rfl rfl)
theorem dX5_finds_134 : decode cX5_finds 134 = .ok (.lcmp, 1) := dk_148 (dk_at dksX5_finds_5 18 rfl rfl)
theorem dX5_finds_135 : decode cX5_finds 135 = .ok (.ifCond .ne 7, 3) := dk_154 0 7 (dk_at dksX5_finds_5 19 rfl rfl)
theorem dX5_finds_138 : decode cX5_finds 138 = .ok (.iconst 1, 1) := dk_4 (dk_at dksX5_finds_5 22 rfl rfl)
theorem dX5_finds_139 : decode cX5_finds 139 = .ok (.goto 4, 3) := dk_167 0 4 (dk_at dksX5_finds_6 0 rfl rfl)
theorem dX5_finds_142 : decode cX5_finds 142 = .ok (.iconst 0, 1) := dk_3 (dk_at dksX5_finds_6 3 rfl rfl)
theorem dX5_finds_143 : decode cX5_finds 143 = .ok (.istore 4, 2) := dk_54 4 (dk_at dksX5_finds_6 4 rfl rfl)
theorem dX5_finds_145 : decode cX5_finds 145 = .ok (.aload_n 0, 1) := dk_42 (dk_at dksX5_finds_6 6 rfl rfl)
theorem dX5_finds_146 : decode cX5_finds 146 = .ok (.getfield 7, 3) := dk_180 0 7 (dk_at dksX5_finds_6 7 rfl rfl)
theorem dX5_finds_149 : decode cX5_finds 149 = .ok (.bipush 116, 2) := dk_16 116 (dk_at dksX5_finds_6 10 rfl rfl)
theorem dX5_finds_151 : decode cX5_finds 151 = .ok (.iload_n 3, 1) := dk_29 (dk_at dksX5_finds_6 12 rfl rfl)
theorem dX5_finds_152 : decode cX5_finds 152 = .ok (.iadd, 1) := dk_96 (dk_at dksX5_finds_6 13 rfl rfl)
theorem dX5_finds_153 : decode cX5_finds 153 = .ok (.iload 4, 2) := dk_21 4 (dk_at dksX5_finds_6 14 rfl rfl)
theorem dX5_finds_155 : decode cX5_finds 155 = .ok (.ifCond .eq 8, 3) := dk_153 0 8 (dk_at dksX5_finds_6 16 rfl rfl)
theorem dX5_finds_158 : decode cX5_finds 158 = .ok (.iload_n 1, 1) := dk_27 (dk_at dksX5_finds_6 19 rfl rfl)
theorem dX5_finds_159 : decode cX5_finds 159 = .ok (.i2l, 1) := dk_133 (dk_at dksX5_finds_6 20 rfl rfl)
theorem dX5_finds_160 : decode cX5_finds 160 = .ok (.goto 12, 3) := dk_167 0 12 (dk_at dksX5_finds_6 21 rfl rfl)
theorem dX5_finds_163 : decode cX5_finds 163 = .ok (.aload_n 0, 1) := dk_42 (dk_at dksX5_finds_7 0 rfl rfl)
theorem dX5_finds_164 : decode cX5_finds 164 = .ok (.getfield 7, 3) := dk_180 0 7 (dk_at dksX5_finds_7 1 rfl rfl)
theorem dX5_finds_167 : decode cX5_finds 167 = .ok (.bipush 116, 2) := dk_16 116 (dk_at dksX5_finds_7 4 rfl rfl)
theorem dX5_finds_169 : decode cX5_finds 169 = .ok (.iload_n 3, 1) := dk_29 (dk_at dksX5_finds_7 6 rfl rfl)
theorem dX5_finds_170 : decode cX5_finds 170 = .ok (.iadd, 1) := dk_96 (dk_at dksX5_finds_7 7 rfl rfl)
theorem dX5_finds_171 : decode cX5_finds 171 = .ok (.laload, 1) := dk_47 (dk_at dksX5_finds_7 8 rfl rfl)
theorem dX5_finds_172 : decode cX5_finds 172 = .ok (.lastore, 1) := dk_80 (dk_at dksX5_finds_7 9 rfl rfl)
theorem dX5_finds_173 : decode cX5_finds 173 = .ok (.aload_n 0, 1) := dk_42 (dk_at dksX5_finds_7 10 rfl rfl)
theorem dX5_finds_174 : decode cX5_finds 174 = .ok (.getfield 7, 3) := dk_180 0 7 (dk_at dksX5_finds_7 11 rfl rfl)
theorem dX5_finds_177 : decode cX5_finds 177 = .ok (.sipush 152, 3) := dk_17 0 152 (dk_at dksX5_finds_7 14 rfl rfl)
theorem dX5_finds_180 : decode cX5_finds 180 = .ok (.iload_n 1, 1) := dk_27 (dk_at dksX5_finds_7 17 rfl rfl)
theorem dX5_finds_181 : decode cX5_finds 181 = .ok (.iadd, 1) := dk_96 (dk_at dksX5_finds_7 18 rfl rfl)
theorem dX5_finds_182 : decode cX5_finds 182 = .ok (.dup2, 1) := dk_92 (dk_at dksX5_finds_7 19 rfl rfl)
theorem dX5_finds_183 : decode cX5_finds 183 = .ok (.laload, 1) := dk_47 (dk_at dksX5_finds_7 20 rfl rfl)
theorem dX5_finds_184 : decode cX5_finds 184 = .ok (.iload 4, 2) := dk_21 4 (dk_at dksX5_finds_7 21 rfl rfl)
theorem dX5_finds_186 : decode cX5_finds 186 = .ok (.ifCond .eq 9, 3) := dk_153 0 9 (dk_at dksX5_finds_8 0 rfl rfl)
theorem dX5_finds_189 : decode cX5_finds 189 = .ok (.lconst 1, 1) := dk_10 (dk_at dksX5_finds_8 3 rfl rfl)
theorem dX5_finds_190 : decode cX5_finds 190 = .ok (.iload_n 3, 1) := dk_29 (dk_at dksX5_finds_8 4 rfl rfl)
theorem dX5_finds_191 : decode cX5_finds 191 = .ok (.lshl, 1) := dk_121 (dk_at dksX5_finds_8 5 rfl rfl)
theorem dX5_finds_192 : decode cX5_finds 192 = .ok (.goto 4, 3) := dk_167 0 4 (dk_at dksX5_finds_8 6 rfl rfl)
theorem dX5_finds_195 : decode cX5_finds 195 = .ok (.lconst 0, 1) := dk_9 (dk_at dksX5_finds_8 9 rfl rfl)
theorem dX5_finds_196 : decode cX5_finds 196 = .ok (.lor, 1) := dk_129 (dk_at dksX5_finds_8 10 rfl rfl)
theorem dX5_finds_197 : decode cX5_finds 197 = .ok (.lastore, 1) := dk_80 (dk_at dksX5_finds_8 11 rfl rfl)
theorem dX5_finds_198 : decode cX5_finds 198 = .ok (.iinc 3 1, 3) := dk_132 3 1 (dk_at dksX5_finds_8 12 rfl rfl)
theorem dX5_finds_201 : decode cX5_finds 201 = .ok (.goto (-87), 3) := dk_167 255 169 (dk_at dksX5_finds_8 15 rfl rfl)
theorem dX5_finds_204 : decode cX5_finds 204 = .ok (.aload_n 0, 1) := dk_42 (dk_at dksX5_finds_8 18 rfl rfl)
theorem dX5_finds_205 : decode cX5_finds 205 = .ok (.getfield 7, 3) := dk_180 0 7 (dk_at dksX5_finds_8 19 rfl rfl)
theorem dX5_finds_208 : decode cX5_finds 208 = .ok (.sipush 512, 3) := dk_17 2 0 (dk_at dksX5_finds_9 0 rfl rfl)
theorem dX5_finds_211 : decode cX5_finds 211 = .ok (.dup2, 1) := dk_92 (dk_at dksX5_finds_9 3 rfl rfl)
theorem dX5_finds_212 : decode cX5_finds 212 = .ok (.laload, 1) := dk_47 (dk_at dksX5_finds_9 4 rfl rfl)
theorem dX5_finds_213 : decode cX5_finds 213 = .ok (.aload_n 0, 1) := dk_42 (dk_at dksX5_finds_9 5 rfl rfl)
theorem dX5_finds_214 : decode cX5_finds 214 = .ok (.getfield 19, 3) := dk_180 0 19 (dk_at dksX5_finds_9 6 rfl rfl)
theorem dX5_finds_217 : decode cX5_finds 217 = .ok (.iload_n 2, 1) := dk_28 (dk_at dksX5_finds_9 9 rfl rfl)
theorem dX5_finds_218 : decode cX5_finds 218 = .ok (.laload, 1) := dk_47 (dk_at dksX5_finds_9 10 rfl rfl)
theorem dX5_finds_219 : decode cX5_finds 219 = .ok (.lor, 1) := dk_129 (dk_at dksX5_finds_9 11 rfl rfl)
theorem dX5_finds_220 : decode cX5_finds 220 = .ok (.lastore, 1) := dk_80 (dk_at dksX5_finds_9 12 rfl rfl)
theorem dX5_finds_221 : decode cX5_finds 221 = .ok (.aload_n 0, 1) := dk_42 (dk_at dksX5_finds_9 13 rfl rfl)
theorem dX5_finds_222 : decode cX5_finds 222 = .ok (.getfield 7, 3) := dk_180 0 7 (dk_at dksX5_finds_9 14 rfl rfl)
theorem dX5_finds_225 : decode cX5_finds 225 = .ok (.sipush 440, 3) := dk_17 1 184 (dk_at dksX5_finds_9 17 rfl rfl)
theorem dX5_finds_228 : decode cX5_finds 228 = .ok (.iload_n 1, 1) := dk_27 (dk_at dksX5_finds_9 20 rfl rfl)
theorem dX5_finds_229 : decode cX5_finds 229 = .ok (.iadd, 1) := dk_96 (dk_at dksX5_finds_9 21 rfl rfl)
theorem dX5_finds_230 : decode cX5_finds 230 = .ok (.lconst 1, 1) := dk_10 (dk_at dksX5_finds_9 22 rfl rfl)
theorem dX5_finds_231 : decode cX5_finds 231 = .ok (.lastore, 1) := dk_80 (dk_at dksX5_finds_9 23 rfl rfl)
theorem dX5_finds_232 : decode cX5_finds 232 = .ok (.iinc 1 1, 3) := dk_132 1 1 (dk_at dksX5_finds_10 0 rfl rfl)
theorem dX5_finds_235 : decode cX5_finds 235 = .ok (.iinc 2 1, 3) := dk_132 2 1 (dk_at dksX5_finds_10 3 rfl rfl)
theorem dX5_finds_238 : decode cX5_finds 238 = .ok (.goto (-171), 3) := dk_167 255 85 (dk_at dksX5_finds_10 6 rfl rfl)
theorem dX5_finds_241 : decode cX5_finds 241 = .ok (.aload_n 0, 1) := dk_42 (dk_at dksX5_finds_10 9 rfl rfl)
theorem dX5_finds_242 : decode cX5_finds 242 = .ok (.getfield 7, 3) := dk_180 0 7 (dk_at dksX5_finds_10 10 rfl rfl)
theorem dX5_finds_245 : decode cX5_finds 245 = .ok (.bipush 6, 2) := dk_16 6 (dk_at dksX5_finds_10 13 rfl rfl)
theorem dX5_finds_247 : decode cX5_finds 247 = .ok (.iload_n 1, 1) := dk_27 (dk_at dksX5_finds_10 15 rfl rfl)
theorem dX5_finds_248 : decode cX5_finds 248 = .ok (.i2l, 1) := dk_133 (dk_at dksX5_finds_10 16 rfl rfl)
theorem dX5_finds_249 : decode cX5_finds 249 = .ok (.lastore, 1) := dk_80 (dk_at dksX5_finds_10 17 rfl rfl)
theorem dX5_finds_250 : decode cX5_finds 250 = .ok (.return_, 1) := dk_177 (dk_at dksX5_finds_10 18 rfl rfl)
abbrev cX5_many : ByteArray := prog_13_method_8_code
def yX5_many : MethodName := ⟨RX5, "many", "()I"⟩
def dkwX5_many_0 : List UInt8 := [42, 180, 0, 7, 3, 47, 42, 180, 0, 7, 4, 47, 105, 136, 172]
abbrev dktX5_many_0 : List UInt8 := dkwX5_many_0 ++ []
theorem dksX5_many_0 : cX5_many.data.toList.drop 0 = dktX5_many_0 := by decide +kernel
theorem dX5_many_0 : decode cX5_many 0 = .ok (.aload_n 0, 1) := dk_42 (dk_at dksX5_many_0 0 rfl rfl)
theorem dX5_many_1 : decode cX5_many 1 = .ok (.getfield 7, 3) := dk_180 0 7 (dk_at dksX5_many_0 1 rfl rfl)
theorem dX5_many_4 : decode cX5_many 4 = .ok (.iconst 0, 1) := dk_3 (dk_at dksX5_many_0 4 rfl rfl)
theorem dX5_many_5 : decode cX5_many 5 = .ok (.laload, 1) := dk_47 (dk_at dksX5_many_0 5 rfl rfl)
theorem dX5_many_6 : decode cX5_many 6 = .ok (.aload_n 0, 1) := dk_42 (dk_at dksX5_many_0 6 rfl rfl)
theorem dX5_many_7 : decode cX5_many 7 = .ok (.getfield 7, 3) := dk_180 0 7 (dk_at dksX5_many_0 7 rfl rfl)
theorem dX5_many_10 : decode cX5_many 10 = .ok (.iconst 1, 1) := dk_4 (dk_at dksX5_many_0 10 rfl rfl)
theorem dX5_many_11 : decode cX5_many 11 = .ok (.laload, 1) := dk_47 (dk_at dksX5_many_0 11 rfl rfl)
theorem dX5_many_12 : decode cX5_many 12 = .ok (.lmul, 1) := dk_105 (dk_at dksX5_many_0 12 rfl rfl)
theorem dX5_many_13 : decode cX5_many 13 = .ok (.l2i, 1) := dk_136 (dk_at dksX5_many_0 13 rfl rfl)
theorem dX5_many_14 : decode cX5_many 14 = .ok (.ireturn, 1) := dk_172 (dk_at dksX5_many_0 14 rfl rfl)
abbrev cX5_endOf : ByteArray := prog_13_method_20_code
def yX5_endOf : MethodName := ⟨RX5, "endOf", "(I)J"⟩
def dkwX5_endOf_1 : List UInt8 := [54, 4, 21, 4, 2, 160, 0, 5, 32, 173, 42, 21, 4, 182, 0, 98, 65, 167, 255, 221, 9, 173]
abbrev dktX5_endOf_1 : List UInt8 := dkwX5_endOf_1 ++ []
def dkwX5_endOf_0 : List UInt8 := [42, 27, 182, 0, 98, 65, 32, 42, 180, 0, 7, 5, 47, 127, 9, 148, 154, 0, 28, 42, 32, 182, 0, 102]
abbrev dktX5_endOf_0 : List UInt8 := dkwX5_endOf_0 ++ dktX5_endOf_1
theorem dksX5_endOf_0 : cX5_endOf.data.toList.drop 0 = dktX5_endOf_0 := by decide +kernel
theorem dksX5_endOf_1 : cX5_endOf.data.toList.drop 24 = dktX5_endOf_1 := dk_seg dksX5_endOf_0 24 rfl rfl
theorem dX5_endOf_0 : decode cX5_endOf 0 = .ok (.aload_n 0, 1) := dk_42 (dk_at dksX5_endOf_0 0 rfl rfl)
theorem dX5_endOf_1 : decode cX5_endOf 1 = .ok (.iload_n 1, 1) := dk_27 (dk_at dksX5_endOf_0 1 rfl rfl)
theorem dX5_endOf_2 : decode cX5_endOf 2 = .ok (.invokevirtual 98, 3) := dk_182 0 98 (dk_at dksX5_endOf_0 2 rfl rfl)
theorem dX5_endOf_5 : decode cX5_endOf 5 = .ok (.lstore_n 2, 1) := dk_65 (dk_at dksX5_endOf_0 5 rfl rfl)
theorem dX5_endOf_6 : decode cX5_endOf 6 = .ok (.lload_n 2, 1) := dk_32 (dk_at dksX5_endOf_0 6 rfl rfl)
theorem dX5_endOf_7 : decode cX5_endOf 7 = .ok (.aload_n 0, 1) := dk_42 (dk_at dksX5_endOf_0 7 rfl rfl)
theorem dX5_endOf_8 : decode cX5_endOf 8 = .ok (.getfield 7, 3) := dk_180 0 7 (dk_at dksX5_endOf_0 8 rfl rfl)
theorem dX5_endOf_11 : decode cX5_endOf 11 = .ok (.iconst 2, 1) := dk_5 (dk_at dksX5_endOf_0 11 rfl rfl)
theorem dX5_endOf_12 : decode cX5_endOf 12 = .ok (.laload, 1) := dk_47 (dk_at dksX5_endOf_0 12 rfl rfl)
theorem dX5_endOf_13 : decode cX5_endOf 13 = .ok (.land, 1) := dk_127 (dk_at dksX5_endOf_0 13 rfl rfl)
theorem dX5_endOf_14 : decode cX5_endOf 14 = .ok (.lconst 0, 1) := dk_9 (dk_at dksX5_endOf_0 14 rfl rfl)
theorem dX5_endOf_15 : decode cX5_endOf 15 = .ok (.lcmp, 1) := dk_148 (dk_at dksX5_endOf_0 15 rfl rfl)
theorem dX5_endOf_16 : decode cX5_endOf 16 = .ok (.ifCond .ne 28, 3) := dk_154 0 28 (dk_at dksX5_endOf_0 16 rfl rfl)
theorem dX5_endOf_19 : decode cX5_endOf 19 = .ok (.aload_n 0, 1) := dk_42 (dk_at dksX5_endOf_0 19 rfl rfl)
theorem dX5_endOf_20 : decode cX5_endOf 20 = .ok (.lload_n 2, 1) := dk_32 (dk_at dksX5_endOf_0 20 rfl rfl)
theorem dX5_endOf_21 : decode cX5_endOf 21 = .ok (.invokevirtual 102, 3) := dk_182 0 102 (dk_at dksX5_endOf_0 21 rfl rfl)
theorem dX5_endOf_24 : decode cX5_endOf 24 = .ok (.istore 4, 2) := dk_54 4 (dk_at dksX5_endOf_1 0 rfl rfl)
theorem dX5_endOf_26 : decode cX5_endOf 26 = .ok (.iload 4, 2) := dk_21 4 (dk_at dksX5_endOf_1 2 rfl rfl)
theorem dX5_endOf_28 : decode cX5_endOf 28 = .ok (.iconst (-1), 1) := dk_2 (dk_at dksX5_endOf_1 4 rfl rfl)
theorem dX5_endOf_29 : decode cX5_endOf 29 = .ok (.if_icmp .ne 5, 3) := dk_160 0 5 (dk_at dksX5_endOf_1 5 rfl rfl)
theorem dX5_endOf_32 : decode cX5_endOf 32 = .ok (.lload_n 2, 1) := dk_32 (dk_at dksX5_endOf_1 8 rfl rfl)
theorem dX5_endOf_33 : decode cX5_endOf 33 = .ok (.lreturn, 1) := dk_173 (dk_at dksX5_endOf_1 9 rfl rfl)
theorem dX5_endOf_34 : decode cX5_endOf 34 = .ok (.aload_n 0, 1) := dk_42 (dk_at dksX5_endOf_1 10 rfl rfl)
theorem dX5_endOf_35 : decode cX5_endOf 35 = .ok (.iload 4, 2) := dk_21 4 (dk_at dksX5_endOf_1 11 rfl rfl)
theorem dX5_endOf_37 : decode cX5_endOf 37 = .ok (.invokevirtual 98, 3) := dk_182 0 98 (dk_at dksX5_endOf_1 13 rfl rfl)
theorem dX5_endOf_40 : decode cX5_endOf 40 = .ok (.lstore_n 2, 1) := dk_65 (dk_at dksX5_endOf_1 16 rfl rfl)
theorem dX5_endOf_41 : decode cX5_endOf 41 = .ok (.goto (-35), 3) := dk_167 255 221 (dk_at dksX5_endOf_1 17 rfl rfl)
theorem dX5_endOf_44 : decode cX5_endOf 44 = .ok (.lconst 0, 1) := dk_9 (dk_at dksX5_endOf_1 20 rfl rfl)
theorem dX5_endOf_45 : decode cX5_endOf 45 = .ok (.lreturn, 1) := dk_173 (dk_at dksX5_endOf_1 21 rfl rfl)
abbrev cX5_plain : ByteArray := prog_13_method_18_code
def yX5_plain : MethodName := ⟨RX5, "plain", "(I)J"⟩
def dkwX5_plain_5 : List UInt8 := [32, 173]
abbrev dktX5_plain_5 : List UInt8 := dkwX5_plain_5 ++ []
def dkwX5_plain_4 : List UInt8 := [10, 21, 7, 121, 129, 65, 4, 54, 4, 132, 6, 1, 167, 255, 178, 132, 5, 1, 167, 255, 160, 167, 255, 146]
abbrev dktX5_plain_4 : List UInt8 := dkwX5_plain_4 ++ dktX5_plain_5
def dkwX5_plain_3 : List UInt8 := [160, 0, 33, 42, 21, 5, 21, 7, 182, 0, 95, 153, 0, 22, 32, 21, 7, 184, 0, 91, 154, 0, 13, 32]
abbrev dktX5_plain_3 : List UInt8 := dkwX5_plain_3 ++ dktX5_plain_4
def dkwX5_plain_2 : List UInt8 := [21, 6, 182, 0, 69, 54, 7, 21, 7, 2, 159, 0, 47, 42, 21, 7, 182, 0, 87, 42, 27, 182, 0, 87]
abbrev dktX5_plain_2 : List UInt8 := dkwX5_plain_2 ++ dktX5_plain_3
def dkwX5_plain_1 : List UInt8 := [162, 0, 93, 3, 54, 6, 21, 6, 7, 162, 0, 78, 32, 21, 5, 184, 0, 91, 153, 0, 69, 42, 21, 5]
abbrev dktX5_plain_1 : List UInt8 := dkwX5_plain_1 ++ dktX5_plain_2
def dkwX5_plain_0 : List UInt8 := [10, 27, 121, 65, 4, 54, 4, 21, 4, 153, 0, 111, 3, 54, 4, 3, 54, 5, 21, 5, 42, 182, 0, 61]
abbrev dktX5_plain_0 : List UInt8 := dkwX5_plain_0 ++ dktX5_plain_1
theorem dksX5_plain_0 : cX5_plain.data.toList.drop 0 = dktX5_plain_0 := by decide +kernel
theorem dksX5_plain_1 : cX5_plain.data.toList.drop 24 = dktX5_plain_1 := dk_seg dksX5_plain_0 24 rfl rfl
theorem dksX5_plain_2 : cX5_plain.data.toList.drop 48 = dktX5_plain_2 := dk_seg dksX5_plain_1 24 rfl rfl
theorem dksX5_plain_3 : cX5_plain.data.toList.drop 72 = dktX5_plain_3 := dk_seg dksX5_plain_2 24 rfl rfl
theorem dksX5_plain_4 : cX5_plain.data.toList.drop 96 = dktX5_plain_4 := dk_seg dksX5_plain_3 24 rfl rfl
theorem dksX5_plain_5 : cX5_plain.data.toList.drop 120 = dktX5_plain_5 := dk_seg dksX5_plain_4 24 rfl rfl
theorem dX5_plain_0 : decode cX5_plain 0 = .ok (.lconst 1, 1) := dk_10 (dk_at dksX5_plain_0 0 rfl rfl)
theorem dX5_plain_1 : decode cX5_plain 1 = .ok (.iload_n 1, 1) := dk_27 (dk_at dksX5_plain_0 1 rfl rfl)
theorem dX5_plain_2 : decode cX5_plain 2 = .ok (.lshl, 1) := dk_121 (dk_at dksX5_plain_0 2 rfl rfl)
theorem dX5_plain_3 : decode cX5_plain 3 = .ok (.lstore_n 2, 1) := dk_65 (dk_at dksX5_plain_0 3 rfl rfl)
theorem dX5_plain_4 : decode cX5_plain 4 = .ok (.iconst 1, 1) := dk_4 (dk_at dksX5_plain_0 4 rfl rfl)
theorem dX5_plain_5 : decode cX5_plain 5 = .ok (.istore 4, 2) := dk_54 4 (dk_at dksX5_plain_0 5 rfl rfl)
theorem dX5_plain_7 : decode cX5_plain 7 = .ok (.iload 4, 2) := dk_21 4 (dk_at dksX5_plain_0 7 rfl rfl)
theorem dX5_plain_9 : decode cX5_plain 9 = .ok (.ifCond .eq 111, 3) := dk_153 0 111 (dk_at dksX5_plain_0 9 rfl rfl)
theorem dX5_plain_12 : decode cX5_plain 12 = .ok (.iconst 0, 1) := dk_3 (dk_at dksX5_plain_0 12 rfl rfl)
theorem dX5_plain_13 : decode cX5_plain 13 = .ok (.istore 4, 2) := dk_54 4 (dk_at dksX5_plain_0 13 rfl rfl)
theorem dX5_plain_15 : decode cX5_plain 15 = .ok (.iconst 0, 1) := dk_3 (dk_at dksX5_plain_0 15 rfl rfl)
theorem dX5_plain_16 : decode cX5_plain 16 = .ok (.istore 5, 2) := dk_54 5 (dk_at dksX5_plain_0 16 rfl rfl)
theorem dX5_plain_18 : decode cX5_plain 18 = .ok (.iload 5, 2) := dk_21 5 (dk_at dksX5_plain_0 18 rfl rfl)
theorem dX5_plain_20 : decode cX5_plain 20 = .ok (.aload_n 0, 1) := dk_42 (dk_at dksX5_plain_0 20 rfl rfl)
theorem dX5_plain_21 : decode cX5_plain 21 = .ok (.invokevirtual 61, 3) := dk_182 0 61 (dk_at dksX5_plain_0 21 rfl rfl)
theorem dX5_plain_24 : decode cX5_plain 24 = .ok (.if_icmp .ge 93, 3) := dk_162 0 93 (dk_at dksX5_plain_1 0 rfl rfl)
theorem dX5_plain_27 : decode cX5_plain 27 = .ok (.iconst 0, 1) := dk_3 (dk_at dksX5_plain_1 3 rfl rfl)
theorem dX5_plain_28 : decode cX5_plain 28 = .ok (.istore 6, 2) := dk_54 6 (dk_at dksX5_plain_1 4 rfl rfl)
theorem dX5_plain_30 : decode cX5_plain 30 = .ok (.iload 6, 2) := dk_21 6 (dk_at dksX5_plain_1 6 rfl rfl)
theorem dX5_plain_32 : decode cX5_plain 32 = .ok (.iconst 4, 1) := dk_7 (dk_at dksX5_plain_1 8 rfl rfl)
theorem dX5_plain_33 : decode cX5_plain 33 = .ok (.if_icmp .ge 78, 3) := dk_162 0 78 (dk_at dksX5_plain_1 9 rfl rfl)
theorem dX5_plain_36 : decode cX5_plain 36 = .ok (.lload_n 2, 1) := dk_32 (dk_at dksX5_plain_1 12 rfl rfl)
theorem dX5_plain_37 : decode cX5_plain 37 = .ok (.iload 5, 2) := dk_21 5 (dk_at dksX5_plain_1 13 rfl rfl)
theorem dX5_plain_39 : decode cX5_plain 39 = .ok (.invokestatic 91, 3) := dk_184 0 91 (dk_at dksX5_plain_1 15 rfl rfl)
theorem dX5_plain_42 : decode cX5_plain 42 = .ok (.ifCond .eq 69, 3) := dk_153 0 69 (dk_at dksX5_plain_1 18 rfl rfl)
theorem dX5_plain_45 : decode cX5_plain 45 = .ok (.aload_n 0, 1) := dk_42 (dk_at dksX5_plain_1 21 rfl rfl)
theorem dX5_plain_46 : decode cX5_plain 46 = .ok (.iload 5, 2) := dk_21 5 (dk_at dksX5_plain_1 22 rfl rfl)
theorem dX5_plain_48 : decode cX5_plain 48 = .ok (.iload 6, 2) := dk_21 6 (dk_at dksX5_plain_2 0 rfl rfl)
theorem dX5_plain_50 : decode cX5_plain 50 = .ok (.invokevirtual 69, 3) := dk_182 0 69 (dk_at dksX5_plain_2 2 rfl rfl)
theorem dX5_plain_53 : decode cX5_plain 53 = .ok (.istore 7, 2) := dk_54 7 (dk_at dksX5_plain_2 5 rfl rfl)
theorem dX5_plain_55 : decode cX5_plain 55 = .ok (.iload 7, 2) := dk_21 7 (dk_at dksX5_plain_2 7 rfl rfl)
theorem dX5_plain_57 : decode cX5_plain 57 = .ok (.iconst (-1), 1) := dk_2 (dk_at dksX5_plain_2 9 rfl rfl)
theorem dX5_plain_58 : decode cX5_plain 58 = .ok (.if_icmp .eq 47, 3) := dk_159 0 47 (dk_at dksX5_plain_2 10 rfl rfl)
theorem dX5_plain_61 : decode cX5_plain 61 = .ok (.aload_n 0, 1) := dk_42 (dk_at dksX5_plain_2 13 rfl rfl)
theorem dX5_plain_62 : decode cX5_plain 62 = .ok (.iload 7, 2) := dk_21 7 (dk_at dksX5_plain_2 14 rfl rfl)
theorem dX5_plain_64 : decode cX5_plain 64 = .ok (.invokevirtual 87, 3) := dk_182 0 87 (dk_at dksX5_plain_2 16 rfl rfl)
theorem dX5_plain_67 : decode cX5_plain 67 = .ok (.aload_n 0, 1) := dk_42 (dk_at dksX5_plain_2 19 rfl rfl)
theorem dX5_plain_68 : decode cX5_plain 68 = .ok (.iload_n 1, 1) := dk_27 (dk_at dksX5_plain_2 20 rfl rfl)
theorem dX5_plain_69 : decode cX5_plain 69 = .ok (.invokevirtual 87, 3) := dk_182 0 87 (dk_at dksX5_plain_2 21 rfl rfl)
theorem dX5_plain_72 : decode cX5_plain 72 = .ok (.if_icmp .ne 33, 3) := dk_160 0 33 (dk_at dksX5_plain_3 0 rfl rfl)
theorem dX5_plain_75 : decode cX5_plain 75 = .ok (.aload_n 0, 1) := dk_42 (dk_at dksX5_plain_3 3 rfl rfl)
theorem dX5_plain_76 : decode cX5_plain 76 = .ok (.iload 5, 2) := dk_21 5 (dk_at dksX5_plain_3 4 rfl rfl)
theorem dX5_plain_78 : decode cX5_plain 78 = .ok (.iload 7, 2) := dk_21 7 (dk_at dksX5_plain_3 6 rfl rfl)
theorem dX5_plain_80 : decode cX5_plain 80 = .ok (.invokevirtual 95, 3) := dk_182 0 95 (dk_at dksX5_plain_3 8 rfl rfl)
theorem dX5_plain_83 : decode cX5_plain 83 = .ok (.ifCond .eq 22, 3) := dk_153 0 22 (dk_at dksX5_plain_3 11 rfl rfl)
theorem dX5_plain_86 : decode cX5_plain 86 = .ok (.lload_n 2, 1) := dk_32 (dk_at dksX5_plain_3 14 rfl rfl)
theorem dX5_plain_87 : decode cX5_plain 87 = .ok (.iload 7, 2) := dk_21 7 (dk_at dksX5_plain_3 15 rfl rfl)
theorem dX5_plain_89 : decode cX5_plain 89 = .ok (.invokestatic 91, 3) := dk_184 0 91 (dk_at dksX5_plain_3 17 rfl rfl)
theorem dX5_plain_92 : decode cX5_plain 92 = .ok (.ifCond .ne 13, 3) := dk_154 0 13 (dk_at dksX5_plain_3 20 rfl rfl)
theorem dX5_plain_95 : decode cX5_plain 95 = .ok (.lload_n 2, 1) := dk_32 (dk_at dksX5_plain_3 23 rfl rfl)
theorem dX5_plain_96 : decode cX5_plain 96 = .ok (.lconst 1, 1) := dk_10 (dk_at dksX5_plain_4 0 rfl rfl)
theorem dX5_plain_97 : decode cX5_plain 97 = .ok (.iload 7, 2) := dk_21 7 (dk_at dksX5_plain_4 1 rfl rfl)
theorem dX5_plain_99 : decode cX5_plain 99 = .ok (.lshl, 1) := dk_121 (dk_at dksX5_plain_4 3 rfl rfl)
theorem dX5_plain_100 : decode cX5_plain 100 = .ok (.lor, 1) := dk_129 (dk_at dksX5_plain_4 4 rfl rfl)
theorem dX5_plain_101 : decode cX5_plain 101 = .ok (.lstore_n 2, 1) := dk_65 (dk_at dksX5_plain_4 5 rfl rfl)
theorem dX5_plain_102 : decode cX5_plain 102 = .ok (.iconst 1, 1) := dk_4 (dk_at dksX5_plain_4 6 rfl rfl)
theorem dX5_plain_103 : decode cX5_plain 103 = .ok (.istore 4, 2) := dk_54 4 (dk_at dksX5_plain_4 7 rfl rfl)
theorem dX5_plain_105 : decode cX5_plain 105 = .ok (.iinc 6 1, 3) := dk_132 6 1 (dk_at dksX5_plain_4 9 rfl rfl)
theorem dX5_plain_108 : decode cX5_plain 108 = .ok (.goto (-78), 3) := dk_167 255 178 (dk_at dksX5_plain_4 12 rfl rfl)
theorem dX5_plain_111 : decode cX5_plain 111 = .ok (.iinc 5 1, 3) := dk_132 5 1 (dk_at dksX5_plain_4 15 rfl rfl)
theorem dX5_plain_114 : decode cX5_plain 114 = .ok (.goto (-96), 3) := dk_167 255 160 (dk_at dksX5_plain_4 18 rfl rfl)
theorem dX5_plain_117 : decode cX5_plain 117 = .ok (.goto (-110), 3) := dk_167 255 146 (dk_at dksX5_plain_4 21 rfl rfl)
theorem dX5_plain_120 : decode cX5_plain 120 = .ok (.lload_n 2, 1) := dk_32 (dk_at dksX5_plain_5 0 rfl rfl)
theorem dX5_plain_121 : decode cX5_plain 121 = .ok (.lreturn, 1) := dk_173 (dk_at dksX5_plain_5 1 rfl rfl)
abbrev cX5_has : ByteArray := prog_13_method_17_code
def yX5_has : MethodName := ⟨RX5, "has", "(JI)Z"⟩
def dkwX5_has_0 : List UInt8 := [30, 28, 123, 10, 127, 10, 148, 154, 0, 7, 4, 167, 0, 4, 3, 172]
abbrev dktX5_has_0 : List UInt8 := dkwX5_has_0 ++ []
theorem dksX5_has_0 : cX5_has.data.toList.drop 0 = dktX5_has_0 := by decide +kernel
theorem dX5_has_0 : decode cX5_has 0 = .ok (.lload_n 0, 1) := dk_30 (dk_at dksX5_has_0 0 rfl rfl)
theorem dX5_has_1 : decode cX5_has 1 = .ok (.iload_n 2, 1) := dk_28 (dk_at dksX5_has_0 1 rfl rfl)
theorem dX5_has_2 : decode cX5_has 2 = .ok (.lshr, 1) := dk_123 (dk_at dksX5_has_0 2 rfl rfl)
theorem dX5_has_3 : decode cX5_has 3 = .ok (.lconst 1, 1) := dk_10 (dk_at dksX5_has_0 3 rfl rfl)
theorem dX5_has_4 : decode cX5_has 4 = .ok (.land, 1) := dk_127 (dk_at dksX5_has_0 4 rfl rfl)
theorem dX5_has_5 : decode cX5_has 5 = .ok (.lconst 1, 1) := dk_10 (dk_at dksX5_has_0 5 rfl rfl)
theorem dX5_has_6 : decode cX5_has 6 = .ok (.lcmp, 1) := dk_148 (dk_at dksX5_has_0 6 rfl rfl)
theorem dX5_has_7 : decode cX5_has 7 = .ok (.ifCond .ne 7, 3) := dk_154 0 7 (dk_at dksX5_has_0 7 rfl rfl)
theorem dX5_has_10 : decode cX5_has 10 = .ok (.iconst 1, 1) := dk_4 (dk_at dksX5_has_0 10 rfl rfl)
theorem dX5_has_11 : decode cX5_has 11 = .ok (.goto 4, 3) := dk_167 0 4 (dk_at dksX5_has_0 11 rfl rfl)
theorem dX5_has_14 : decode cX5_has 14 = .ok (.iconst 0, 1) := dk_3 (dk_at dksX5_has_0 14 rfl rfl)
theorem dX5_has_15 : decode cX5_has 15 = .ok (.ireturn, 1) := dk_172 (dk_at dksX5_has_0 15 rfl rfl)
abbrev cX5_neighbor : ByteArray := prog_13_method_11_code
def yX5_neighbor : MethodName := ⟨RX5, "neighbor", "(II)I"⟩
def dkwX5_neighbor_4 : List UInt8 := [96, 42, 182, 0, 61, 162, 0, 9, 27, 29, 96, 167, 0, 4, 2, 172]
abbrev dktX5_neighbor_4 : List UInt8 := dkwX5_neighbor_4 ++ []
def dkwX5_neighbor_3 : List UInt8 := [167, 0, 4, 2, 172, 27, 29, 112, 29, 4, 100, 162, 0, 9, 27, 4, 96, 167, 0, 4, 2, 172, 27, 29]
abbrev dktX5_neighbor_3 : List UInt8 := dkwX5_neighbor_3 ++ dktX5_neighbor_4
def dkwX5_neighbor_2 : List UInt8 := [27, 29, 161, 0, 9, 27, 29, 100, 167, 0, 4, 2, 172, 27, 29, 112, 158, 0, 9, 27, 4, 100]
abbrev dktX5_neighbor_2 : List UInt8 := dkwX5_neighbor_2 ++ dktX5_neighbor_3
def dkwX5_neighbor_1 : List UInt8 := [170, 0, 0, 0, 0, 0, 71, 0, 0, 0, 0, 0, 0, 0, 2, 0, 0, 0, 27, 0, 0, 0, 40, 0, 0, 0, 54]
abbrev dktX5_neighbor_1 : List UInt8 := dkwX5_neighbor_1 ++ dktX5_neighbor_2
def dkwX5_neighbor_0 : List UInt8 := [42, 180, 0, 7, 3, 47, 136, 62, 28]
abbrev dktX5_neighbor_0 : List UInt8 := dkwX5_neighbor_0 ++ dktX5_neighbor_1
theorem dksX5_neighbor_0 : cX5_neighbor.data.toList.drop 0 = dktX5_neighbor_0 := by decide +kernel
theorem dksX5_neighbor_1 : cX5_neighbor.data.toList.drop 9 = dktX5_neighbor_1 := dk_seg dksX5_neighbor_0 9 rfl rfl
theorem dksX5_neighbor_2 : cX5_neighbor.data.toList.drop 36 = dktX5_neighbor_2 := dk_seg dksX5_neighbor_1 27 rfl rfl
theorem dksX5_neighbor_3 : cX5_neighbor.data.toList.drop 58 = dktX5_neighbor_3 := dk_seg dksX5_neighbor_2 22 rfl rfl
theorem dksX5_neighbor_4 : cX5_neighbor.data.toList.drop 82 = dktX5_neighbor_4 := dk_seg dksX5_neighbor_3 24 rfl rfl
theorem dX5_neighbor_0 : decode cX5_neighbor 0 = .ok (.aload_n 0, 1) := dk_42 (dk_at dksX5_neighbor_0 0 rfl rfl)
theorem dX5_neighbor_1 : decode cX5_neighbor 1 = .ok (.getfield 7, 3) := dk_180 0 7 (dk_at dksX5_neighbor_0 1 rfl rfl)
theorem dX5_neighbor_4 : decode cX5_neighbor 4 = .ok (.iconst 0, 1) := dk_3 (dk_at dksX5_neighbor_0 4 rfl rfl)
theorem dX5_neighbor_5 : decode cX5_neighbor 5 = .ok (.laload, 1) := dk_47 (dk_at dksX5_neighbor_0 5 rfl rfl)
theorem dX5_neighbor_6 : decode cX5_neighbor 6 = .ok (.l2i, 1) := dk_136 (dk_at dksX5_neighbor_0 6 rfl rfl)
theorem dX5_neighbor_7 : decode cX5_neighbor 7 = .ok (.istore_n 3, 1) := dk_62 (dk_at dksX5_neighbor_0 7 rfl rfl)
theorem dX5_neighbor_8 : decode cX5_neighbor 8 = .ok (.iload_n 2, 1) := dk_28 (dk_at dksX5_neighbor_0 8 rfl rfl)
theorem dX5_neighbor_9 : decode cX5_neighbor 9 = .ok (.tableswitch 71 0 2 #[27, 40, 54], 27) := by decide +kernel
theorem dX5_neighbor_36 : decode cX5_neighbor 36 = .ok (.iload_n 1, 1) := dk_27 (dk_at dksX5_neighbor_2 0 rfl rfl)
theorem dX5_neighbor_37 : decode cX5_neighbor 37 = .ok (.iload_n 3, 1) := dk_29 (dk_at dksX5_neighbor_2 1 rfl rfl)
theorem dX5_neighbor_38 : decode cX5_neighbor 38 = .ok (.if_icmp .lt 9, 3) := dk_161 0 9 (dk_at dksX5_neighbor_2 2 rfl rfl)
theorem dX5_neighbor_41 : decode cX5_neighbor 41 = .ok (.iload_n 1, 1) := dk_27 (dk_at dksX5_neighbor_2 5 rfl rfl)
theorem dX5_neighbor_42 : decode cX5_neighbor 42 = .ok (.iload_n 3, 1) := dk_29 (dk_at dksX5_neighbor_2 6 rfl rfl)
theorem dX5_neighbor_43 : decode cX5_neighbor 43 = .ok (.isub, 1) := dk_100 (dk_at dksX5_neighbor_2 7 rfl rfl)
theorem dX5_neighbor_44 : decode cX5_neighbor 44 = .ok (.goto 4, 3) := dk_167 0 4 (dk_at dksX5_neighbor_2 8 rfl rfl)
theorem dX5_neighbor_47 : decode cX5_neighbor 47 = .ok (.iconst (-1), 1) := dk_2 (dk_at dksX5_neighbor_2 11 rfl rfl)
theorem dX5_neighbor_48 : decode cX5_neighbor 48 = .ok (.ireturn, 1) := dk_172 (dk_at dksX5_neighbor_2 12 rfl rfl)
theorem dX5_neighbor_49 : decode cX5_neighbor 49 = .ok (.iload_n 1, 1) := dk_27 (dk_at dksX5_neighbor_2 13 rfl rfl)
theorem dX5_neighbor_50 : decode cX5_neighbor 50 = .ok (.iload_n 3, 1) := dk_29 (dk_at dksX5_neighbor_2 14 rfl rfl)
theorem dX5_neighbor_51 : decode cX5_neighbor 51 = .ok (.irem, 1) := dk_112 (dk_at dksX5_neighbor_2 15 rfl rfl)
theorem dX5_neighbor_52 : decode cX5_neighbor 52 = .ok (.ifCond .le 9, 3) := dk_158 0 9 (dk_at dksX5_neighbor_2 16 rfl rfl)
theorem dX5_neighbor_55 : decode cX5_neighbor 55 = .ok (.iload_n 1, 1) := dk_27 (dk_at dksX5_neighbor_2 19 rfl rfl)
theorem dX5_neighbor_56 : decode cX5_neighbor 56 = .ok (.iconst 1, 1) := dk_4 (dk_at dksX5_neighbor_2 20 rfl rfl)
theorem dX5_neighbor_57 : decode cX5_neighbor 57 = .ok (.isub, 1) := dk_100 (dk_at dksX5_neighbor_2 21 rfl rfl)
theorem dX5_neighbor_58 : decode cX5_neighbor 58 = .ok (.goto 4, 3) := dk_167 0 4 (dk_at dksX5_neighbor_3 0 rfl rfl)
theorem dX5_neighbor_61 : decode cX5_neighbor 61 = .ok (.iconst (-1), 1) := dk_2 (dk_at dksX5_neighbor_3 3 rfl rfl)
theorem dX5_neighbor_62 : decode cX5_neighbor 62 = .ok (.ireturn, 1) := dk_172 (dk_at dksX5_neighbor_3 4 rfl rfl)
theorem dX5_neighbor_63 : decode cX5_neighbor 63 = .ok (.iload_n 1, 1) := dk_27 (dk_at dksX5_neighbor_3 5 rfl rfl)
theorem dX5_neighbor_64 : decode cX5_neighbor 64 = .ok (.iload_n 3, 1) := dk_29 (dk_at dksX5_neighbor_3 6 rfl rfl)
theorem dX5_neighbor_65 : decode cX5_neighbor 65 = .ok (.irem, 1) := dk_112 (dk_at dksX5_neighbor_3 7 rfl rfl)
theorem dX5_neighbor_66 : decode cX5_neighbor 66 = .ok (.iload_n 3, 1) := dk_29 (dk_at dksX5_neighbor_3 8 rfl rfl)
theorem dX5_neighbor_67 : decode cX5_neighbor 67 = .ok (.iconst 1, 1) := dk_4 (dk_at dksX5_neighbor_3 9 rfl rfl)
theorem dX5_neighbor_68 : decode cX5_neighbor 68 = .ok (.isub, 1) := dk_100 (dk_at dksX5_neighbor_3 10 rfl rfl)
theorem dX5_neighbor_69 : decode cX5_neighbor 69 = .ok (.if_icmp .ge 9, 3) := dk_162 0 9 (dk_at dksX5_neighbor_3 11 rfl rfl)
theorem dX5_neighbor_72 : decode cX5_neighbor 72 = .ok (.iload_n 1, 1) := dk_27 (dk_at dksX5_neighbor_3 14 rfl rfl)
theorem dX5_neighbor_73 : decode cX5_neighbor 73 = .ok (.iconst 1, 1) := dk_4 (dk_at dksX5_neighbor_3 15 rfl rfl)
theorem dX5_neighbor_74 : decode cX5_neighbor 74 = .ok (.iadd, 1) := dk_96 (dk_at dksX5_neighbor_3 16 rfl rfl)
theorem dX5_neighbor_75 : decode cX5_neighbor 75 = .ok (.goto 4, 3) := dk_167 0 4 (dk_at dksX5_neighbor_3 17 rfl rfl)
theorem dX5_neighbor_78 : decode cX5_neighbor 78 = .ok (.iconst (-1), 1) := dk_2 (dk_at dksX5_neighbor_3 20 rfl rfl)
theorem dX5_neighbor_79 : decode cX5_neighbor 79 = .ok (.ireturn, 1) := dk_172 (dk_at dksX5_neighbor_3 21 rfl rfl)
theorem dX5_neighbor_80 : decode cX5_neighbor 80 = .ok (.iload_n 1, 1) := dk_27 (dk_at dksX5_neighbor_3 22 rfl rfl)
theorem dX5_neighbor_81 : decode cX5_neighbor 81 = .ok (.iload_n 3, 1) := dk_29 (dk_at dksX5_neighbor_3 23 rfl rfl)
theorem dX5_neighbor_82 : decode cX5_neighbor 82 = .ok (.iadd, 1) := dk_96 (dk_at dksX5_neighbor_4 0 rfl rfl)
theorem dX5_neighbor_83 : decode cX5_neighbor 83 = .ok (.aload_n 0, 1) := dk_42 (dk_at dksX5_neighbor_4 1 rfl rfl)
theorem dX5_neighbor_84 : decode cX5_neighbor 84 = .ok (.invokevirtual 61, 3) := dk_182 0 61 (dk_at dksX5_neighbor_4 2 rfl rfl)
theorem dX5_neighbor_87 : decode cX5_neighbor 87 = .ok (.if_icmp .ge 9, 3) := dk_162 0 9 (dk_at dksX5_neighbor_4 5 rfl rfl)
theorem dX5_neighbor_90 : decode cX5_neighbor 90 = .ok (.iload_n 1, 1) := dk_27 (dk_at dksX5_neighbor_4 8 rfl rfl)
theorem dX5_neighbor_91 : decode cX5_neighbor 91 = .ok (.iload_n 3, 1) := dk_29 (dk_at dksX5_neighbor_4 9 rfl rfl)
theorem dX5_neighbor_92 : decode cX5_neighbor 92 = .ok (.iadd, 1) := dk_96 (dk_at dksX5_neighbor_4 10 rfl rfl)
theorem dX5_neighbor_93 : decode cX5_neighbor 93 = .ok (.goto 4, 3) := dk_167 0 4 (dk_at dksX5_neighbor_4 11 rfl rfl)
theorem dX5_neighbor_96 : decode cX5_neighbor 96 = .ok (.iconst (-1), 1) := dk_2 (dk_at dksX5_neighbor_4 14 rfl rfl)
theorem dX5_neighbor_97 : decode cX5_neighbor 97 = .ok (.ireturn, 1) := dk_172 (dk_at dksX5_neighbor_4 15 rfl rfl)
abbrev cX5_height : ByteArray := prog_13_method_10_code
def yX5_height : MethodName := ⟨RX5, "height", "(I)I"⟩
def dkwX5_height_0 : List UInt8 := [42, 180, 0, 7, 16, 8, 27, 96, 47, 136, 172]
abbrev dktX5_height_0 : List UInt8 := dkwX5_height_0 ++ []
theorem dksX5_height_0 : cX5_height.data.toList.drop 0 = dktX5_height_0 := by decide +kernel
theorem dX5_height_0 : decode cX5_height 0 = .ok (.aload_n 0, 1) := dk_42 (dk_at dksX5_height_0 0 rfl rfl)
theorem dX5_height_1 : decode cX5_height 1 = .ok (.getfield 7, 3) := dk_180 0 7 (dk_at dksX5_height_0 1 rfl rfl)
theorem dX5_height_4 : decode cX5_height 4 = .ok (.bipush 8, 2) := dk_16 8 (dk_at dksX5_height_0 4 rfl rfl)
theorem dX5_height_6 : decode cX5_height 6 = .ok (.iload_n 1, 1) := dk_27 (dk_at dksX5_height_0 6 rfl rfl)
theorem dX5_height_7 : decode cX5_height 7 = .ok (.iadd, 1) := dk_96 (dk_at dksX5_height_0 7 rfl rfl)
theorem dX5_height_8 : decode cX5_height 8 = .ok (.laload, 1) := dk_47 (dk_at dksX5_height_0 8 rfl rfl)
theorem dX5_height_9 : decode cX5_height 9 = .ok (.l2i, 1) := dk_136 (dk_at dksX5_height_0 9 rfl rfl)
theorem dX5_height_10 : decode cX5_height 10 = .ok (.ireturn, 1) := dk_172 (dk_at dksX5_height_0 10 rfl rfl)
abbrev cX5_runs : ByteArray := prog_13_method_16_code
def yX5_runs : MethodName := ⟨RX5, "runs", "(II)Z"⟩
def dkwX5_runs_0 : List UInt8 := [42, 27, 28, 182, 0, 84, 42, 27, 182, 0, 87, 160, 0, 7, 4, 167, 0, 4, 3, 172]
abbrev dktX5_runs_0 : List UInt8 := dkwX5_runs_0 ++ []
theorem dksX5_runs_0 : cX5_runs.data.toList.drop 0 = dktX5_runs_0 := by decide +kernel
theorem dX5_runs_0 : decode cX5_runs 0 = .ok (.aload_n 0, 1) := dk_42 (dk_at dksX5_runs_0 0 rfl rfl)
theorem dX5_runs_1 : decode cX5_runs 1 = .ok (.iload_n 1, 1) := dk_27 (dk_at dksX5_runs_0 1 rfl rfl)
theorem dX5_runs_2 : decode cX5_runs 2 = .ok (.iload_n 2, 1) := dk_28 (dk_at dksX5_runs_0 2 rfl rfl)
theorem dX5_runs_3 : decode cX5_runs 3 = .ok (.invokevirtual 84, 3) := dk_182 0 84 (dk_at dksX5_runs_0 3 rfl rfl)
theorem dX5_runs_6 : decode cX5_runs 6 = .ok (.aload_n 0, 1) := dk_42 (dk_at dksX5_runs_0 6 rfl rfl)
theorem dX5_runs_7 : decode cX5_runs 7 = .ok (.iload_n 1, 1) := dk_27 (dk_at dksX5_runs_0 7 rfl rfl)
theorem dX5_runs_8 : decode cX5_runs 8 = .ok (.invokevirtual 87, 3) := dk_182 0 87 (dk_at dksX5_runs_0 8 rfl rfl)
theorem dX5_runs_11 : decode cX5_runs 11 = .ok (.if_icmp .ne 7, 3) := dk_160 0 7 (dk_at dksX5_runs_0 11 rfl rfl)
theorem dX5_runs_14 : decode cX5_runs 14 = .ok (.iconst 1, 1) := dk_4 (dk_at dksX5_runs_0 14 rfl rfl)
theorem dX5_runs_15 : decode cX5_runs 15 = .ok (.goto 4, 3) := dk_167 0 4 (dk_at dksX5_runs_0 15 rfl rfl)
theorem dX5_runs_18 : decode cX5_runs 18 = .ok (.iconst 0, 1) := dk_3 (dk_at dksX5_runs_0 18 rfl rfl)
theorem dX5_runs_19 : decode cX5_runs 19 = .ok (.ireturn, 1) := dk_172 (dk_at dksX5_runs_0 19 rfl rfl)
abbrev cX5_threshold : ByteArray := prog_13_method_15_code
def yX5_threshold : MethodName := ⟨RX5, "threshold", "(II)I"⟩
def dkwX5_threshold_3 : List UInt8 := [33, 136, 172]
abbrev dktX5_threshold_3 : List UInt8 := dkwX5_threshold_3 ++ []
def dkwX5_threshold_2 : List UInt8 := [180, 0, 7, 42, 27, 28, 182, 0, 81, 47, 55, 5, 22, 5, 33, 148, 158, 0, 8, 22, 5, 167, 0, 4]
abbrev dktX5_threshold_2 : List UInt8 := dkwX5_threshold_2 ++ dktX5_threshold_3
def dkwX5_threshold_1 : List UInt8 := [180, 0, 7, 16, 8, 27, 96, 47, 167, 0, 12, 42, 180, 0, 7, 16, 8, 28, 96, 47, 66, 42]
abbrev dktX5_threshold_1 : List UInt8 := dkwX5_threshold_1 ++ dktX5_threshold_2
def dkwX5_threshold_0 : List UInt8 := [42, 180, 0, 7, 16, 8, 27, 96, 47, 42, 180, 0, 7, 16, 8, 28, 96, 47, 148, 158, 0, 15, 42]
abbrev dktX5_threshold_0 : List UInt8 := dkwX5_threshold_0 ++ dktX5_threshold_1
theorem dksX5_threshold_0 : cX5_threshold.data.toList.drop 0 = dktX5_threshold_0 := by decide +kernel
theorem dksX5_threshold_1 : cX5_threshold.data.toList.drop 23 = dktX5_threshold_1 := dk_seg dksX5_threshold_0 23 rfl rfl
theorem dksX5_threshold_2 : cX5_threshold.data.toList.drop 45 = dktX5_threshold_2 := dk_seg dksX5_threshold_1 22 rfl rfl
theorem dksX5_threshold_3 : cX5_threshold.data.toList.drop 69 = dktX5_threshold_3 := dk_seg dksX5_threshold_2 24 rfl rfl
theorem dX5_threshold_0 : decode cX5_threshold 0 = .ok (.aload_n 0, 1) := dk_42 (dk_at dksX5_threshold_0 0 rfl rfl)
theorem dX5_threshold_1 : decode cX5_threshold 1 = .ok (.getfield 7, 3) := dk_180 0 7 (dk_at dksX5_threshold_0 1 rfl rfl)
theorem dX5_threshold_4 : decode cX5_threshold 4 = .ok (.bipush 8, 2) := dk_16 8 (dk_at dksX5_threshold_0 4 rfl rfl)
theorem dX5_threshold_6 : decode cX5_threshold 6 = .ok (.iload_n 1, 1) := dk_27 (dk_at dksX5_threshold_0 6 rfl rfl)
theorem dX5_threshold_7 : decode cX5_threshold 7 = .ok (.iadd, 1) := dk_96 (dk_at dksX5_threshold_0 7 rfl rfl)
theorem dX5_threshold_8 : decode cX5_threshold 8 = .ok (.laload, 1) := dk_47 (dk_at dksX5_threshold_0 8 rfl rfl)
theorem dX5_threshold_9 : decode cX5_threshold 9 = .ok (.aload_n 0, 1) := dk_42 (dk_at dksX5_threshold_0 9 rfl rfl)
theorem dX5_threshold_10 : decode cX5_threshold 10 = .ok (.getfield 7, 3) := dk_180 0 7 (dk_at dksX5_threshold_0 10 rfl rfl)
theorem dX5_threshold_13 : decode cX5_threshold 13 = .ok (.bipush 8, 2) := dk_16 8 (dk_at dksX5_threshold_0 13 rfl rfl)
theorem dX5_threshold_15 : decode cX5_threshold 15 = .ok (.iload_n 2, 1) := dk_28 (dk_at dksX5_threshold_0 15 rfl rfl)
theorem dX5_threshold_16 : decode cX5_threshold 16 = .ok (.iadd, 1) := dk_96 (dk_at dksX5_threshold_0 16 rfl rfl)
theorem dX5_threshold_17 : decode cX5_threshold 17 = .ok (.laload, 1) := dk_47 (dk_at dksX5_threshold_0 17 rfl rfl)
theorem dX5_threshold_18 : decode cX5_threshold 18 = .ok (.lcmp, 1) := dk_148 (dk_at dksX5_threshold_0 18 rfl rfl)
theorem dX5_threshold_19 : decode cX5_threshold 19 = .ok (.ifCond .le 15, 3) := dk_158 0 15 (dk_at dksX5_threshold_0 19 rfl rfl)
theorem dX5_threshold_22 : decode cX5_threshold 22 = .ok (.aload_n 0, 1) := dk_42 (dk_at dksX5_threshold_0 22 rfl rfl)
theorem dX5_threshold_23 : decode cX5_threshold 23 = .ok (.getfield 7, 3) := dk_180 0 7 (dk_at dksX5_threshold_1 0 rfl rfl)
theorem dX5_threshold_26 : decode cX5_threshold 26 = .ok (.bipush 8, 2) := dk_16 8 (dk_at dksX5_threshold_1 3 rfl rfl)
theorem dX5_threshold_28 : decode cX5_threshold 28 = .ok (.iload_n 1, 1) := dk_27 (dk_at dksX5_threshold_1 5 rfl rfl)
theorem dX5_threshold_29 : decode cX5_threshold 29 = .ok (.iadd, 1) := dk_96 (dk_at dksX5_threshold_1 6 rfl rfl)
theorem dX5_threshold_30 : decode cX5_threshold 30 = .ok (.laload, 1) := dk_47 (dk_at dksX5_threshold_1 7 rfl rfl)
theorem dX5_threshold_31 : decode cX5_threshold 31 = .ok (.goto 12, 3) := dk_167 0 12 (dk_at dksX5_threshold_1 8 rfl rfl)
theorem dX5_threshold_34 : decode cX5_threshold 34 = .ok (.aload_n 0, 1) := dk_42 (dk_at dksX5_threshold_1 11 rfl rfl)
theorem dX5_threshold_35 : decode cX5_threshold 35 = .ok (.getfield 7, 3) := dk_180 0 7 (dk_at dksX5_threshold_1 12 rfl rfl)
theorem dX5_threshold_38 : decode cX5_threshold 38 = .ok (.bipush 8, 2) := dk_16 8 (dk_at dksX5_threshold_1 15 rfl rfl)
theorem dX5_threshold_40 : decode cX5_threshold 40 = .ok (.iload_n 2, 1) := dk_28 (dk_at dksX5_threshold_1 17 rfl rfl)
theorem dX5_threshold_41 : decode cX5_threshold 41 = .ok (.iadd, 1) := dk_96 (dk_at dksX5_threshold_1 18 rfl rfl)
theorem dX5_threshold_42 : decode cX5_threshold 42 = .ok (.laload, 1) := dk_47 (dk_at dksX5_threshold_1 19 rfl rfl)
theorem dX5_threshold_43 : decode cX5_threshold 43 = .ok (.lstore_n 3, 1) := dk_66 (dk_at dksX5_threshold_1 20 rfl rfl)
theorem dX5_threshold_44 : decode cX5_threshold 44 = .ok (.aload_n 0, 1) := dk_42 (dk_at dksX5_threshold_1 21 rfl rfl)
theorem dX5_threshold_45 : decode cX5_threshold 45 = .ok (.getfield 7, 3) := dk_180 0 7 (dk_at dksX5_threshold_2 0 rfl rfl)
theorem dX5_threshold_48 : decode cX5_threshold 48 = .ok (.aload_n 0, 1) := dk_42 (dk_at dksX5_threshold_2 3 rfl rfl)
theorem dX5_threshold_49 : decode cX5_threshold 49 = .ok (.iload_n 1, 1) := dk_27 (dk_at dksX5_threshold_2 4 rfl rfl)
theorem dX5_threshold_50 : decode cX5_threshold 50 = .ok (.iload_n 2, 1) := dk_28 (dk_at dksX5_threshold_2 5 rfl rfl)
theorem dX5_threshold_51 : decode cX5_threshold 51 = .ok (.invokevirtual 81, 3) := dk_182 0 81 (dk_at dksX5_threshold_2 6 rfl rfl)
theorem dX5_threshold_54 : decode cX5_threshold 54 = .ok (.laload, 1) := dk_47 (dk_at dksX5_threshold_2 9 rfl rfl)
theorem dX5_threshold_55 : decode cX5_threshold 55 = .ok (.lstore 5, 2) := dk_55 5 (dk_at dksX5_threshold_2 10 rfl rfl)
theorem dX5_threshold_57 : decode cX5_threshold 57 = .ok (.lload 5, 2) := dk_22 5 (dk_at dksX5_threshold_2 12 rfl rfl)
theorem dX5_threshold_59 : decode cX5_threshold 59 = .ok (.lload_n 3, 1) := dk_33 (dk_at dksX5_threshold_2 14 rfl rfl)
theorem dX5_threshold_60 : decode cX5_threshold 60 = .ok (.lcmp, 1) := dk_148 (dk_at dksX5_threshold_2 15 rfl rfl)
theorem dX5_threshold_61 : decode cX5_threshold 61 = .ok (.ifCond .le 8, 3) := dk_158 0 8 (dk_at dksX5_threshold_2 16 rfl rfl)
theorem dX5_threshold_64 : decode cX5_threshold 64 = .ok (.lload 5, 2) := dk_22 5 (dk_at dksX5_threshold_2 19 rfl rfl)
theorem dX5_threshold_66 : decode cX5_threshold 66 = .ok (.goto 4, 3) := dk_167 0 4 (dk_at dksX5_threshold_2 21 rfl rfl)
theorem dX5_threshold_69 : decode cX5_threshold 69 = .ok (.lload_n 3, 1) := dk_33 (dk_at dksX5_threshold_3 0 rfl rfl)
theorem dX5_threshold_70 : decode cX5_threshold 70 = .ok (.l2i, 1) := dk_136 (dk_at dksX5_threshold_3 1 rfl rfl)
theorem dX5_threshold_71 : decode cX5_threshold 71 = .ok (.ireturn, 1) := dk_172 (dk_at dksX5_threshold_3 2 rfl rfl)
abbrev cX5_gateAt : ByteArray := prog_13_method_14_code
def yX5_gateAt : MethodName := ⟨RX5, "gateAt", "(II)I"⟩
def dkwX5_gateAt_1 : List UInt8 := [21, 4, 42, 29, 5, 182, 0, 69, 160, 0, 10, 16, 44, 29, 96, 167, 0, 7, 16, 80, 29, 96, 172]
abbrev dktX5_gateAt_1 : List UInt8 := dkwX5_gateAt_1 ++ []
def dkwX5_gateAt_0 : List UInt8 := [27, 28, 162, 0, 7, 27, 167, 0, 4, 28, 62, 27, 28, 162, 0, 7, 28, 167, 0, 4, 27, 54, 4]
abbrev dktX5_gateAt_0 : List UInt8 := dkwX5_gateAt_0 ++ dktX5_gateAt_1
theorem dksX5_gateAt_0 : cX5_gateAt.data.toList.drop 0 = dktX5_gateAt_0 := by decide +kernel
theorem dksX5_gateAt_1 : cX5_gateAt.data.toList.drop 23 = dktX5_gateAt_1 := dk_seg dksX5_gateAt_0 23 rfl rfl
theorem dX5_gateAt_0 : decode cX5_gateAt 0 = .ok (.iload_n 1, 1) := dk_27 (dk_at dksX5_gateAt_0 0 rfl rfl)
theorem dX5_gateAt_1 : decode cX5_gateAt 1 = .ok (.iload_n 2, 1) := dk_28 (dk_at dksX5_gateAt_0 1 rfl rfl)
theorem dX5_gateAt_2 : decode cX5_gateAt 2 = .ok (.if_icmp .ge 7, 3) := dk_162 0 7 (dk_at dksX5_gateAt_0 2 rfl rfl)
theorem dX5_gateAt_5 : decode cX5_gateAt 5 = .ok (.iload_n 1, 1) := dk_27 (dk_at dksX5_gateAt_0 5 rfl rfl)
theorem dX5_gateAt_6 : decode cX5_gateAt 6 = .ok (.goto 4, 3) := dk_167 0 4 (dk_at dksX5_gateAt_0 6 rfl rfl)
theorem dX5_gateAt_9 : decode cX5_gateAt 9 = .ok (.iload_n 2, 1) := dk_28 (dk_at dksX5_gateAt_0 9 rfl rfl)
theorem dX5_gateAt_10 : decode cX5_gateAt 10 = .ok (.istore_n 3, 1) := dk_62 (dk_at dksX5_gateAt_0 10 rfl rfl)
theorem dX5_gateAt_11 : decode cX5_gateAt 11 = .ok (.iload_n 1, 1) := dk_27 (dk_at dksX5_gateAt_0 11 rfl rfl)
theorem dX5_gateAt_12 : decode cX5_gateAt 12 = .ok (.iload_n 2, 1) := dk_28 (dk_at dksX5_gateAt_0 12 rfl rfl)
theorem dX5_gateAt_13 : decode cX5_gateAt 13 = .ok (.if_icmp .ge 7, 3) := dk_162 0 7 (dk_at dksX5_gateAt_0 13 rfl rfl)
theorem dX5_gateAt_16 : decode cX5_gateAt 16 = .ok (.iload_n 2, 1) := dk_28 (dk_at dksX5_gateAt_0 16 rfl rfl)
theorem dX5_gateAt_17 : decode cX5_gateAt 17 = .ok (.goto 4, 3) := dk_167 0 4 (dk_at dksX5_gateAt_0 17 rfl rfl)
theorem dX5_gateAt_20 : decode cX5_gateAt 20 = .ok (.iload_n 1, 1) := dk_27 (dk_at dksX5_gateAt_0 20 rfl rfl)
theorem dX5_gateAt_21 : decode cX5_gateAt 21 = .ok (.istore 4, 2) := dk_54 4 (dk_at dksX5_gateAt_0 21 rfl rfl)
theorem dX5_gateAt_23 : decode cX5_gateAt 23 = .ok (.iload 4, 2) := dk_21 4 (dk_at dksX5_gateAt_1 0 rfl rfl)
theorem dX5_gateAt_25 : decode cX5_gateAt 25 = .ok (.aload_n 0, 1) := dk_42 (dk_at dksX5_gateAt_1 2 rfl rfl)
theorem dX5_gateAt_26 : decode cX5_gateAt 26 = .ok (.iload_n 3, 1) := dk_29 (dk_at dksX5_gateAt_1 3 rfl rfl)
theorem dX5_gateAt_27 : decode cX5_gateAt 27 = .ok (.iconst 2, 1) := dk_5 (dk_at dksX5_gateAt_1 4 rfl rfl)
theorem dX5_gateAt_28 : decode cX5_gateAt 28 = .ok (.invokevirtual 69, 3) := dk_182 0 69 (dk_at dksX5_gateAt_1 5 rfl rfl)
theorem dX5_gateAt_31 : decode cX5_gateAt 31 = .ok (.if_icmp .ne 10, 3) := dk_160 0 10 (dk_at dksX5_gateAt_1 8 rfl rfl)
theorem dX5_gateAt_34 : decode cX5_gateAt 34 = .ok (.bipush 44, 2) := dk_16 44 (dk_at dksX5_gateAt_1 11 rfl rfl)
theorem dX5_gateAt_36 : decode cX5_gateAt 36 = .ok (.iload_n 3, 1) := dk_29 (dk_at dksX5_gateAt_1 13 rfl rfl)
theorem dX5_gateAt_37 : decode cX5_gateAt 37 = .ok (.iadd, 1) := dk_96 (dk_at dksX5_gateAt_1 14 rfl rfl)
theorem dX5_gateAt_38 : decode cX5_gateAt 38 = .ok (.goto 7, 3) := dk_167 0 7 (dk_at dksX5_gateAt_1 15 rfl rfl)
theorem dX5_gateAt_41 : decode cX5_gateAt 41 = .ok (.bipush 80, 2) := dk_16 80 (dk_at dksX5_gateAt_1 18 rfl rfl)
theorem dX5_gateAt_43 : decode cX5_gateAt 43 = .ok (.iload_n 3, 1) := dk_29 (dk_at dksX5_gateAt_1 20 rfl rfl)
theorem dX5_gateAt_44 : decode cX5_gateAt 44 = .ok (.iadd, 1) := dk_96 (dk_at dksX5_gateAt_1 21 rfl rfl)
theorem dX5_gateAt_45 : decode cX5_gateAt 45 = .ok (.ireturn, 1) := dk_172 (dk_at dksX5_gateAt_1 22 rfl rfl)
abbrev cX5_way : ByteArray := prog_13_method_19_code
def yX5_way : MethodName := ⟨RX5, "way", "(J)I"⟩
def dkwX5_way_4 : List UInt8 := [132, 5, 1, 167, 255, 175, 21, 4, 2, 159, 0, 6, 21, 4, 172, 132, 3, 1, 167, 255, 146, 2, 172]
abbrev dktX5_way_4 : List UInt8 := dkwX5_way_4 ++ []
def dkwX5_way_3 : List UInt8 := [159, 0, 18, 42, 21, 6, 182, 0, 87, 42, 21, 4, 182, 0, 87, 162, 0, 7, 21, 6, 54, 4]
abbrev dktX5_way_3 : List UInt8 := dkwX5_way_3 ++ dktX5_way_4
def dkwX5_way_2 : List UInt8 := [182, 0, 87, 42, 29, 182, 0, 87, 162, 0, 38, 42, 29, 21, 6, 182, 0, 95, 153, 0, 28, 21, 4, 2]
abbrev dktX5_way_2 : List UInt8 := dkwX5_way_2 ++ dktX5_way_3
def dkwX5_way_1 : List UInt8 := [184, 0, 91, 153, 0, 73, 42, 29, 21, 5, 182, 0, 69, 54, 6, 21, 6, 2, 159, 0, 52, 42, 21, 6]
abbrev dktX5_way_1 : List UInt8 := dkwX5_way_1 ++ dktX5_way_2
def dkwX5_way_0 : List UInt8 := [3, 62, 29, 42, 182, 0, 61, 162, 0, 108, 2, 54, 4, 3, 54, 5, 21, 5, 7, 162, 0, 81, 31, 29]
abbrev dktX5_way_0 : List UInt8 := dkwX5_way_0 ++ dktX5_way_1
theorem dksX5_way_0 : cX5_way.data.toList.drop 0 = dktX5_way_0 := by decide +kernel
theorem dksX5_way_1 : cX5_way.data.toList.drop 24 = dktX5_way_1 := dk_seg dksX5_way_0 24 rfl rfl
theorem dksX5_way_2 : cX5_way.data.toList.drop 48 = dktX5_way_2 := dk_seg dksX5_way_1 24 rfl rfl
theorem dksX5_way_3 : cX5_way.data.toList.drop 72 = dktX5_way_3 := dk_seg dksX5_way_2 24 rfl rfl
theorem dksX5_way_4 : cX5_way.data.toList.drop 94 = dktX5_way_4 := dk_seg dksX5_way_3 22 rfl rfl
theorem dX5_way_0 : decode cX5_way 0 = .ok (.iconst 0, 1) := dk_3 (dk_at dksX5_way_0 0 rfl rfl)
theorem dX5_way_1 : decode cX5_way 1 = .ok (.istore_n 3, 1) := dk_62 (dk_at dksX5_way_0 1 rfl rfl)
theorem dX5_way_2 : decode cX5_way 2 = .ok (.iload_n 3, 1) := dk_29 (dk_at dksX5_way_0 2 rfl rfl)
theorem dX5_way_3 : decode cX5_way 3 = .ok (.aload_n 0, 1) := dk_42 (dk_at dksX5_way_0 3 rfl rfl)
theorem dX5_way_4 : decode cX5_way 4 = .ok (.invokevirtual 61, 3) := dk_182 0 61 (dk_at dksX5_way_0 4 rfl rfl)
theorem dX5_way_7 : decode cX5_way 7 = .ok (.if_icmp .ge 108, 3) := dk_162 0 108 (dk_at dksX5_way_0 7 rfl rfl)
theorem dX5_way_10 : decode cX5_way 10 = .ok (.iconst (-1), 1) := dk_2 (dk_at dksX5_way_0 10 rfl rfl)
theorem dX5_way_11 : decode cX5_way 11 = .ok (.istore 4, 2) := dk_54 4 (dk_at dksX5_way_0 11 rfl rfl)
theorem dX5_way_13 : decode cX5_way 13 = .ok (.iconst 0, 1) := dk_3 (dk_at dksX5_way_0 13 rfl rfl)
theorem dX5_way_14 : decode cX5_way 14 = .ok (.istore 5, 2) := dk_54 5 (dk_at dksX5_way_0 14 rfl rfl)
theorem dX5_way_16 : decode cX5_way 16 = .ok (.iload 5, 2) := dk_21 5 (dk_at dksX5_way_0 16 rfl rfl)
theorem dX5_way_18 : decode cX5_way 18 = .ok (.iconst 4, 1) := dk_7 (dk_at dksX5_way_0 18 rfl rfl)
theorem dX5_way_19 : decode cX5_way 19 = .ok (.if_icmp .ge 81, 3) := dk_162 0 81 (dk_at dksX5_way_0 19 rfl rfl)
theorem dX5_way_22 : decode cX5_way 22 = .ok (.lload_n 1, 1) := dk_31 (dk_at dksX5_way_0 22 rfl rfl)
theorem dX5_way_23 : decode cX5_way 23 = .ok (.iload_n 3, 1) := dk_29 (dk_at dksX5_way_0 23 rfl rfl)
theorem dX5_way_24 : decode cX5_way 24 = .ok (.invokestatic 91, 3) := dk_184 0 91 (dk_at dksX5_way_1 0 rfl rfl)
theorem dX5_way_27 : decode cX5_way 27 = .ok (.ifCond .eq 73, 3) := dk_153 0 73 (dk_at dksX5_way_1 3 rfl rfl)
theorem dX5_way_30 : decode cX5_way 30 = .ok (.aload_n 0, 1) := dk_42 (dk_at dksX5_way_1 6 rfl rfl)
theorem dX5_way_31 : decode cX5_way 31 = .ok (.iload_n 3, 1) := dk_29 (dk_at dksX5_way_1 7 rfl rfl)
theorem dX5_way_32 : decode cX5_way 32 = .ok (.iload 5, 2) := dk_21 5 (dk_at dksX5_way_1 8 rfl rfl)
theorem dX5_way_34 : decode cX5_way 34 = .ok (.invokevirtual 69, 3) := dk_182 0 69 (dk_at dksX5_way_1 10 rfl rfl)
theorem dX5_way_37 : decode cX5_way 37 = .ok (.istore 6, 2) := dk_54 6 (dk_at dksX5_way_1 13 rfl rfl)
theorem dX5_way_39 : decode cX5_way 39 = .ok (.iload 6, 2) := dk_21 6 (dk_at dksX5_way_1 15 rfl rfl)
theorem dX5_way_41 : decode cX5_way 41 = .ok (.iconst (-1), 1) := dk_2 (dk_at dksX5_way_1 17 rfl rfl)
theorem dX5_way_42 : decode cX5_way 42 = .ok (.if_icmp .eq 52, 3) := dk_159 0 52 (dk_at dksX5_way_1 18 rfl rfl)
theorem dX5_way_45 : decode cX5_way 45 = .ok (.aload_n 0, 1) := dk_42 (dk_at dksX5_way_1 21 rfl rfl)
theorem dX5_way_46 : decode cX5_way 46 = .ok (.iload 6, 2) := dk_21 6 (dk_at dksX5_way_1 22 rfl rfl)
theorem dX5_way_48 : decode cX5_way 48 = .ok (.invokevirtual 87, 3) := dk_182 0 87 (dk_at dksX5_way_2 0 rfl rfl)
theorem dX5_way_51 : decode cX5_way 51 = .ok (.aload_n 0, 1) := dk_42 (dk_at dksX5_way_2 3 rfl rfl)
theorem dX5_way_52 : decode cX5_way 52 = .ok (.iload_n 3, 1) := dk_29 (dk_at dksX5_way_2 4 rfl rfl)
theorem dX5_way_53 : decode cX5_way 53 = .ok (.invokevirtual 87, 3) := dk_182 0 87 (dk_at dksX5_way_2 5 rfl rfl)
theorem dX5_way_56 : decode cX5_way 56 = .ok (.if_icmp .ge 38, 3) := dk_162 0 38 (dk_at dksX5_way_2 8 rfl rfl)
theorem dX5_way_59 : decode cX5_way 59 = .ok (.aload_n 0, 1) := dk_42 (dk_at dksX5_way_2 11 rfl rfl)
theorem dX5_way_60 : decode cX5_way 60 = .ok (.iload_n 3, 1) := dk_29 (dk_at dksX5_way_2 12 rfl rfl)
theorem dX5_way_61 : decode cX5_way 61 = .ok (.iload 6, 2) := dk_21 6 (dk_at dksX5_way_2 13 rfl rfl)
theorem dX5_way_63 : decode cX5_way 63 = .ok (.invokevirtual 95, 3) := dk_182 0 95 (dk_at dksX5_way_2 15 rfl rfl)
theorem dX5_way_66 : decode cX5_way 66 = .ok (.ifCond .eq 28, 3) := dk_153 0 28 (dk_at dksX5_way_2 18 rfl rfl)
theorem dX5_way_69 : decode cX5_way 69 = .ok (.iload 4, 2) := dk_21 4 (dk_at dksX5_way_2 21 rfl rfl)
theorem dX5_way_71 : decode cX5_way 71 = .ok (.iconst (-1), 1) := dk_2 (dk_at dksX5_way_2 23 rfl rfl)
theorem dX5_way_72 : decode cX5_way 72 = .ok (.if_icmp .eq 18, 3) := dk_159 0 18 (dk_at dksX5_way_3 0 rfl rfl)
theorem dX5_way_75 : decode cX5_way 75 = .ok (.aload_n 0, 1) := dk_42 (dk_at dksX5_way_3 3 rfl rfl)
theorem dX5_way_76 : decode cX5_way 76 = .ok (.iload 6, 2) := dk_21 6 (dk_at dksX5_way_3 4 rfl rfl)
theorem dX5_way_78 : decode cX5_way 78 = .ok (.invokevirtual 87, 3) := dk_182 0 87 (dk_at dksX5_way_3 6 rfl rfl)
theorem dX5_way_81 : decode cX5_way 81 = .ok (.aload_n 0, 1) := dk_42 (dk_at dksX5_way_3 9 rfl rfl)
theorem dX5_way_82 : decode cX5_way 82 = .ok (.iload 4, 2) := dk_21 4 (dk_at dksX5_way_3 10 rfl rfl)
theorem dX5_way_84 : decode cX5_way 84 = .ok (.invokevirtual 87, 3) := dk_182 0 87 (dk_at dksX5_way_3 12 rfl rfl)
theorem dX5_way_87 : decode cX5_way 87 = .ok (.if_icmp .ge 7, 3) := dk_162 0 7 (dk_at dksX5_way_3 15 rfl rfl)
theorem dX5_way_90 : decode cX5_way 90 = .ok (.iload 6, 2) := dk_21 6 (dk_at dksX5_way_3 18 rfl rfl)
theorem dX5_way_92 : decode cX5_way 92 = .ok (.istore 4, 2) := dk_54 4 (dk_at dksX5_way_3 20 rfl rfl)
theorem dX5_way_94 : decode cX5_way 94 = .ok (.iinc 5 1, 3) := dk_132 5 1 (dk_at dksX5_way_4 0 rfl rfl)
theorem dX5_way_97 : decode cX5_way 97 = .ok (.goto (-81), 3) := dk_167 255 175 (dk_at dksX5_way_4 3 rfl rfl)
theorem dX5_way_100 : decode cX5_way 100 = .ok (.iload 4, 2) := dk_21 4 (dk_at dksX5_way_4 6 rfl rfl)
theorem dX5_way_102 : decode cX5_way 102 = .ok (.iconst (-1), 1) := dk_2 (dk_at dksX5_way_4 8 rfl rfl)
theorem dX5_way_103 : decode cX5_way 103 = .ok (.if_icmp .eq 6, 3) := dk_159 0 6 (dk_at dksX5_way_4 9 rfl rfl)
theorem dX5_way_106 : decode cX5_way 106 = .ok (.iload 4, 2) := dk_21 4 (dk_at dksX5_way_4 12 rfl rfl)
theorem dX5_way_108 : decode cX5_way 108 = .ok (.ireturn, 1) := dk_172 (dk_at dksX5_way_4 14 rfl rfl)
theorem dX5_way_109 : decode cX5_way 109 = .ok (.iinc 3 1, 3) := dk_132 3 1 (dk_at dksX5_way_4 15 rfl rfl)
theorem dX5_way_112 : decode cX5_way 112 = .ok (.goto (-110), 3) := dk_167 255 146 (dk_at dksX5_way_4 18 rfl rfl)
theorem dX5_way_115 : decode cX5_way 115 = .ok (.iconst (-1), 1) := dk_2 (dk_at dksX5_way_4 21 rfl rfl)
theorem dX5_way_116 : decode cX5_way 116 = .ok (.ireturn, 1) := dk_172 (dk_at dksX5_way_4 22 rfl rfl)
abbrev cX5_lowest : ByteArray := prog_13_method_21_code
def yX5_lowest : MethodName := ⟨RX5, "lowest", "(J)I"⟩
def dkwX5_lowest_0 : List UInt8 := [3, 61, 30, 28, 184, 0, 91, 154, 0, 9, 132, 2, 1, 167, 255, 245, 28, 172]
abbrev dktX5_lowest_0 : List UInt8 := dkwX5_lowest_0 ++ []
theorem dksX5_lowest_0 : cX5_lowest.data.toList.drop 0 = dktX5_lowest_0 := by decide +kernel
theorem dX5_lowest_0 : decode cX5_lowest 0 = .ok (.iconst 0, 1) := dk_3 (dk_at dksX5_lowest_0 0 rfl rfl)
theorem dX5_lowest_1 : decode cX5_lowest 1 = .ok (.istore_n 2, 1) := dk_61 (dk_at dksX5_lowest_0 1 rfl rfl)
theorem dX5_lowest_2 : decode cX5_lowest 2 = .ok (.lload_n 0, 1) := dk_30 (dk_at dksX5_lowest_0 2 rfl rfl)
theorem dX5_lowest_3 : decode cX5_lowest 3 = .ok (.iload_n 2, 1) := dk_28 (dk_at dksX5_lowest_0 3 rfl rfl)
theorem dX5_lowest_4 : decode cX5_lowest 4 = .ok (.invokestatic 91, 3) := dk_184 0 91 (dk_at dksX5_lowest_0 4 rfl rfl)
theorem dX5_lowest_7 : decode cX5_lowest 7 = .ok (.ifCond .ne 9, 3) := dk_154 0 9 (dk_at dksX5_lowest_0 7 rfl rfl)
theorem dX5_lowest_10 : decode cX5_lowest 10 = .ok (.iinc 2 1, 3) := dk_132 2 1 (dk_at dksX5_lowest_0 10 rfl rfl)
theorem dX5_lowest_13 : decode cX5_lowest 13 = .ok (.goto (-11), 3) := dk_167 255 245 (dk_at dksX5_lowest_0 13 rfl rfl)
theorem dX5_lowest_16 : decode cX5_lowest 16 = .ok (.iload_n 2, 1) := dk_28 (dk_at dksX5_lowest_0 16 rfl rfl)
theorem dX5_lowest_17 : decode cX5_lowest 17 = .ok (.ireturn, 1) := dk_172 (dk_at dksX5_lowest_0 17 rfl rfl)
abbrev cX5_thrown : ByteArray := prog_13_method_2_code
def yX5_thrown : MethodName := ⟨RX5, "thrown", "()I"⟩
theorem dX5_thrown_0 : decode cX5_thrown 0 = .ok (.aload_n 0, 1) := by decide +kernel
theorem dX5_thrown_1 : decode cX5_thrown 1 = .ok (.getfield 54, 3) := by decide +kernel
theorem dX5_thrown_4 : decode cX5_thrown 4 = .ok (.ireturn, 1) := by decide +kernel
abbrev cX5_begin : ByteArray := prog_13_method_46_code
def yX5_begin : MethodName := ⟨RX5, "begin", "(II)I"⟩
def dkwX5_begin_2 : List UInt8 := [28, 182, 0, 50, 42, 182, 0, 61, 172]
abbrev dktX5_begin_2 : List UInt8 := dkwX5_begin_2 ++ []
def dkwX5_begin_1 : List UInt8 := [153, 0, 7, 4, 167, 0, 4, 3, 4, 4, 182, 0, 183, 154, 0, 5, 3, 172, 42, 182, 0, 187, 42, 27]
abbrev dktX5_begin_1 : List UInt8 := dkwX5_begin_1 ++ dktX5_begin_2
def dkwX5_begin_0 : List UInt8 := [42, 27, 133, 10, 20, 0, 181, 184, 0, 65, 153, 0, 19, 28, 133, 10, 20, 0, 181, 184, 0, 65]
abbrev dktX5_begin_0 : List UInt8 := dkwX5_begin_0 ++ dktX5_begin_1
theorem dksX5_begin_0 : cX5_begin.data.toList.drop 0 = dktX5_begin_0 := by decide +kernel
theorem dksX5_begin_1 : cX5_begin.data.toList.drop 22 = dktX5_begin_1 := dk_seg dksX5_begin_0 22 rfl rfl
theorem dksX5_begin_2 : cX5_begin.data.toList.drop 46 = dktX5_begin_2 := dk_seg dksX5_begin_1 24 rfl rfl
theorem dX5_begin_0 : decode cX5_begin 0 = .ok (.aload_n 0, 1) := dk_42 (dk_at dksX5_begin_0 0 rfl rfl)
theorem dX5_begin_1 : decode cX5_begin 1 = .ok (.iload_n 1, 1) := dk_27 (dk_at dksX5_begin_0 1 rfl rfl)
theorem dX5_begin_2 : decode cX5_begin 2 = .ok (.i2l, 1) := dk_133 (dk_at dksX5_begin_0 2 rfl rfl)
theorem dX5_begin_3 : decode cX5_begin 3 = .ok (.lconst 1, 1) := dk_10 (dk_at dksX5_begin_0 3 rfl rfl)
theorem dX5_begin_4 : decode cX5_begin 4 = .ok (.ldc2_w 181, 3) := dk_20 0 181 (dk_at dksX5_begin_0 4 rfl rfl)
theorem dX5_begin_7 : decode cX5_begin 7 = .ok (.invokestatic 65, 3) := dk_184 0 65 (dk_at dksX5_begin_0 7 rfl rfl)
theorem dX5_begin_10 : decode cX5_begin 10 = .ok (.ifCond .eq 19, 3) := dk_153 0 19 (dk_at dksX5_begin_0 10 rfl rfl)
theorem dX5_begin_13 : decode cX5_begin 13 = .ok (.iload_n 2, 1) := dk_28 (dk_at dksX5_begin_0 13 rfl rfl)
theorem dX5_begin_14 : decode cX5_begin 14 = .ok (.i2l, 1) := dk_133 (dk_at dksX5_begin_0 14 rfl rfl)
theorem dX5_begin_15 : decode cX5_begin 15 = .ok (.lconst 1, 1) := dk_10 (dk_at dksX5_begin_0 15 rfl rfl)
theorem dX5_begin_16 : decode cX5_begin 16 = .ok (.ldc2_w 181, 3) := dk_20 0 181 (dk_at dksX5_begin_0 16 rfl rfl)
theorem dX5_begin_19 : decode cX5_begin 19 = .ok (.invokestatic 65, 3) := dk_184 0 65 (dk_at dksX5_begin_0 19 rfl rfl)
theorem dX5_begin_22 : decode cX5_begin 22 = .ok (.ifCond .eq 7, 3) := dk_153 0 7 (dk_at dksX5_begin_1 0 rfl rfl)
theorem dX5_begin_25 : decode cX5_begin 25 = .ok (.iconst 1, 1) := dk_4 (dk_at dksX5_begin_1 3 rfl rfl)
theorem dX5_begin_26 : decode cX5_begin 26 = .ok (.goto 4, 3) := dk_167 0 4 (dk_at dksX5_begin_1 4 rfl rfl)
theorem dX5_begin_29 : decode cX5_begin 29 = .ok (.iconst 0, 1) := dk_3 (dk_at dksX5_begin_1 7 rfl rfl)
theorem dX5_begin_30 : decode cX5_begin 30 = .ok (.iconst 1, 1) := dk_4 (dk_at dksX5_begin_1 8 rfl rfl)
theorem dX5_begin_31 : decode cX5_begin 31 = .ok (.iconst 1, 1) := dk_4 (dk_at dksX5_begin_1 9 rfl rfl)
theorem dX5_begin_32 : decode cX5_begin 32 = .ok (.invokevirtual 183, 3) := dk_182 0 183 (dk_at dksX5_begin_1 10 rfl rfl)
theorem dX5_begin_35 : decode cX5_begin 35 = .ok (.ifCond .ne 5, 3) := dk_154 0 5 (dk_at dksX5_begin_1 13 rfl rfl)
theorem dX5_begin_38 : decode cX5_begin 38 = .ok (.iconst 0, 1) := dk_3 (dk_at dksX5_begin_1 16 rfl rfl)
theorem dX5_begin_39 : decode cX5_begin 39 = .ok (.ireturn, 1) := dk_172 (dk_at dksX5_begin_1 17 rfl rfl)
theorem dX5_begin_40 : decode cX5_begin 40 = .ok (.aload_n 0, 1) := dk_42 (dk_at dksX5_begin_1 18 rfl rfl)
theorem dX5_begin_41 : decode cX5_begin 41 = .ok (.invokevirtual 187, 3) := dk_182 0 187 (dk_at dksX5_begin_1 19 rfl rfl)
theorem dX5_begin_44 : decode cX5_begin 44 = .ok (.aload_n 0, 1) := dk_42 (dk_at dksX5_begin_1 22 rfl rfl)
theorem dX5_begin_45 : decode cX5_begin 45 = .ok (.iload_n 1, 1) := dk_27 (dk_at dksX5_begin_1 23 rfl rfl)
theorem dX5_begin_46 : decode cX5_begin 46 = .ok (.iload_n 2, 1) := dk_28 (dk_at dksX5_begin_2 0 rfl rfl)
theorem dX5_begin_47 : decode cX5_begin 47 = .ok (.invokevirtual 50, 3) := dk_182 0 50 (dk_at dksX5_begin_2 1 rfl rfl)
theorem dX5_begin_50 : decode cX5_begin 50 = .ok (.aload_n 0, 1) := dk_42 (dk_at dksX5_begin_2 4 rfl rfl)
theorem dX5_begin_51 : decode cX5_begin 51 = .ok (.invokevirtual 61, 3) := dk_182 0 61 (dk_at dksX5_begin_2 5 rfl rfl)
theorem dX5_begin_54 : decode cX5_begin 54 = .ok (.ireturn, 1) := dk_172 (dk_at dksX5_begin_2 8 rfl rfl)
abbrev cX5_in : ByteArray := prog_13_method_3_code
def yX5_in : MethodName := ⟨RX5, "in", "(JJJ)Z"⟩
def dkwX5_in_0 : List UInt8 := [30, 32, 148, 155, 0, 14, 30, 22, 4, 148, 157, 0, 7, 4, 167, 0, 4, 3, 172]
abbrev dktX5_in_0 : List UInt8 := dkwX5_in_0 ++ []
theorem dksX5_in_0 : cX5_in.data.toList.drop 0 = dktX5_in_0 := by decide +kernel
theorem dX5_in_0 : decode cX5_in 0 = .ok (.lload_n 0, 1) := dk_30 (dk_at dksX5_in_0 0 rfl rfl)
theorem dX5_in_1 : decode cX5_in 1 = .ok (.lload_n 2, 1) := dk_32 (dk_at dksX5_in_0 1 rfl rfl)
theorem dX5_in_2 : decode cX5_in 2 = .ok (.lcmp, 1) := dk_148 (dk_at dksX5_in_0 2 rfl rfl)
theorem dX5_in_3 : decode cX5_in 3 = .ok (.ifCond .lt 14, 3) := dk_155 0 14 (dk_at dksX5_in_0 3 rfl rfl)
theorem dX5_in_6 : decode cX5_in 6 = .ok (.lload_n 0, 1) := dk_30 (dk_at dksX5_in_0 6 rfl rfl)
theorem dX5_in_7 : decode cX5_in 7 = .ok (.lload 4, 2) := dk_22 4 (dk_at dksX5_in_0 7 rfl rfl)
theorem dX5_in_9 : decode cX5_in 9 = .ok (.lcmp, 1) := dk_148 (dk_at dksX5_in_0 9 rfl rfl)
theorem dX5_in_10 : decode cX5_in 10 = .ok (.ifCond .gt 7, 3) := dk_157 0 7 (dk_at dksX5_in_0 10 rfl rfl)
theorem dX5_in_13 : decode cX5_in 13 = .ok (.iconst 1, 1) := dk_4 (dk_at dksX5_in_0 13 rfl rfl)
theorem dX5_in_14 : decode cX5_in 14 = .ok (.goto 4, 3) := dk_167 0 4 (dk_at dksX5_in_0 14 rfl rfl)
theorem dX5_in_17 : decode cX5_in 17 = .ok (.iconst 0, 1) := dk_3 (dk_at dksX5_in_0 17 rfl rfl)
theorem dX5_in_18 : decode cX5_in 18 = .ok (.ireturn, 1) := dk_172 (dk_at dksX5_in_0 18 rfl rfl)
abbrev cX5_goes : ByteArray := prog_13_method_4_code
def yX5_goes : MethodName := ⟨RX5, "goes", "(ZZZ)Z"⟩
def dkwX5_goes_1 : List UInt8 := [167, 0, 4, 3, 181, 0, 54, 42, 180, 0, 54, 154, 0, 7, 4, 167, 0, 4, 3, 172]
abbrev dktX5_goes_1 : List UInt8 := dkwX5_goes_1 ++ []
def dkwX5_goes_0 : List UInt8 := [42, 27, 154, 0, 7, 4, 167, 0, 20, 28, 154, 0, 7, 5, 167, 0, 12, 29, 154, 0, 7, 6]
abbrev dktX5_goes_0 : List UInt8 := dkwX5_goes_0 ++ dktX5_goes_1
theorem dksX5_goes_0 : cX5_goes.data.toList.drop 0 = dktX5_goes_0 := by decide +kernel
theorem dksX5_goes_1 : cX5_goes.data.toList.drop 22 = dktX5_goes_1 := dk_seg dksX5_goes_0 22 rfl rfl
theorem dX5_goes_0 : decode cX5_goes 0 = .ok (.aload_n 0, 1) := dk_42 (dk_at dksX5_goes_0 0 rfl rfl)
theorem dX5_goes_1 : decode cX5_goes 1 = .ok (.iload_n 1, 1) := dk_27 (dk_at dksX5_goes_0 1 rfl rfl)
theorem dX5_goes_2 : decode cX5_goes 2 = .ok (.ifCond .ne 7, 3) := dk_154 0 7 (dk_at dksX5_goes_0 2 rfl rfl)
theorem dX5_goes_5 : decode cX5_goes 5 = .ok (.iconst 1, 1) := dk_4 (dk_at dksX5_goes_0 5 rfl rfl)
theorem dX5_goes_6 : decode cX5_goes 6 = .ok (.goto 20, 3) := dk_167 0 20 (dk_at dksX5_goes_0 6 rfl rfl)
theorem dX5_goes_9 : decode cX5_goes 9 = .ok (.iload_n 2, 1) := dk_28 (dk_at dksX5_goes_0 9 rfl rfl)
theorem dX5_goes_10 : decode cX5_goes 10 = .ok (.ifCond .ne 7, 3) := dk_154 0 7 (dk_at dksX5_goes_0 10 rfl rfl)
theorem dX5_goes_13 : decode cX5_goes 13 = .ok (.iconst 2, 1) := dk_5 (dk_at dksX5_goes_0 13 rfl rfl)
theorem dX5_goes_14 : decode cX5_goes 14 = .ok (.goto 12, 3) := dk_167 0 12 (dk_at dksX5_goes_0 14 rfl rfl)
theorem dX5_goes_17 : decode cX5_goes 17 = .ok (.iload_n 3, 1) := dk_29 (dk_at dksX5_goes_0 17 rfl rfl)
theorem dX5_goes_18 : decode cX5_goes 18 = .ok (.ifCond .ne 7, 3) := dk_154 0 7 (dk_at dksX5_goes_0 18 rfl rfl)
theorem dX5_goes_21 : decode cX5_goes 21 = .ok (.iconst 3, 1) := dk_6 (dk_at dksX5_goes_0 21 rfl rfl)
theorem dX5_goes_22 : decode cX5_goes 22 = .ok (.goto 4, 3) := dk_167 0 4 (dk_at dksX5_goes_1 0 rfl rfl)
theorem dX5_goes_25 : decode cX5_goes 25 = .ok (.iconst 0, 1) := dk_3 (dk_at dksX5_goes_1 3 rfl rfl)
theorem dX5_goes_26 : decode cX5_goes 26 = .ok (.putfield 54, 3) := dk_181 0 54 (dk_at dksX5_goes_1 4 rfl rfl)
theorem dX5_goes_29 : decode cX5_goes 29 = .ok (.aload_n 0, 1) := dk_42 (dk_at dksX5_goes_1 7 rfl rfl)
theorem dX5_goes_30 : decode cX5_goes 30 = .ok (.getfield 54, 3) := dk_180 0 54 (dk_at dksX5_goes_1 8 rfl rfl)
theorem dX5_goes_33 : decode cX5_goes 33 = .ok (.ifCond .ne 7, 3) := dk_154 0 7 (dk_at dksX5_goes_1 11 rfl rfl)
theorem dX5_goes_36 : decode cX5_goes 36 = .ok (.iconst 1, 1) := dk_4 (dk_at dksX5_goes_1 14 rfl rfl)
theorem dX5_goes_37 : decode cX5_goes 37 = .ok (.goto 4, 3) := dk_167 0 4 (dk_at dksX5_goes_1 15 rfl rfl)
theorem dX5_goes_40 : decode cX5_goes 40 = .ok (.iconst 0, 1) := dk_3 (dk_at dksX5_goes_1 18 rfl rfl)
theorem dX5_goes_41 : decode cX5_goes 41 = .ok (.ireturn, 1) := dk_172 (dk_at dksX5_goes_1 19 rfl rfl)
abbrev cX5_save : ByteArray := prog_13_method_5_code
def yX5_save : MethodName := ⟨RX5, "save", "()V"⟩
def dkwX5_save_4 : List UInt8 := [181, 0, 58, 177]
abbrev dktX5_save_4 : List UInt8 := dkwX5_save_4 ++ []
def dkwX5_save_3 : List UInt8 := [27, 96, 42, 180, 0, 7, 27, 47, 80, 132, 1, 1, 167, 255, 225, 42, 89, 180, 0, 58, 4, 96]
abbrev dktX5_save_3 : List UInt8 := dkwX5_save_3 ++ dktX5_save_4
def dkwX5_save_2 : List UInt8 := [181, 0, 58, 3, 60, 27, 17, 2, 1, 162, 0, 30, 42, 180, 0, 13, 17, 2, 1, 42, 180, 0, 58, 104]
abbrev dktX5_save_2 : List UInt8 := dkwX5_save_2 ++ dktX5_save_3
def dkwX5_save_1 : List UInt8 := [180, 0, 13, 27, 17, 2, 1, 96, 47, 80, 132, 1, 1, 167, 255, 230, 42, 89, 180, 0, 58, 4, 100]
abbrev dktX5_save_1 : List UInt8 := dkwX5_save_1 ++ dktX5_save_2
def dkwX5_save_0 : List UInt8 := [42, 180, 0, 58, 7, 160, 0, 44, 3, 60, 27, 17, 6, 3, 162, 0, 25, 42, 180, 0, 13, 27, 42]
abbrev dktX5_save_0 : List UInt8 := dkwX5_save_0 ++ dktX5_save_1
theorem dksX5_save_0 : cX5_save.data.toList.drop 0 = dktX5_save_0 := by decide +kernel
theorem dksX5_save_1 : cX5_save.data.toList.drop 23 = dktX5_save_1 := dk_seg dksX5_save_0 23 rfl rfl
theorem dksX5_save_2 : cX5_save.data.toList.drop 46 = dktX5_save_2 := dk_seg dksX5_save_1 23 rfl rfl
theorem dksX5_save_3 : cX5_save.data.toList.drop 70 = dktX5_save_3 := dk_seg dksX5_save_2 24 rfl rfl
theorem dksX5_save_4 : cX5_save.data.toList.drop 92 = dktX5_save_4 := dk_seg dksX5_save_3 22 rfl rfl
theorem dX5_save_0 : decode cX5_save 0 = .ok (.aload_n 0, 1) := dk_42 (dk_at dksX5_save_0 0 rfl rfl)
theorem dX5_save_1 : decode cX5_save 1 = .ok (.getfield 58, 3) := dk_180 0 58 (dk_at dksX5_save_0 1 rfl rfl)
theorem dX5_save_4 : decode cX5_save 4 = .ok (.iconst 4, 1) := dk_7 (dk_at dksX5_save_0 4 rfl rfl)
theorem dX5_save_5 : decode cX5_save 5 = .ok (.if_icmp .ne 44, 3) := dk_160 0 44 (dk_at dksX5_save_0 5 rfl rfl)
theorem dX5_save_8 : decode cX5_save 8 = .ok (.iconst 0, 1) := dk_3 (dk_at dksX5_save_0 8 rfl rfl)
theorem dX5_save_9 : decode cX5_save 9 = .ok (.istore_n 1, 1) := dk_60 (dk_at dksX5_save_0 9 rfl rfl)
theorem dX5_save_10 : decode cX5_save 10 = .ok (.iload_n 1, 1) := dk_27 (dk_at dksX5_save_0 10 rfl rfl)
theorem dX5_save_11 : decode cX5_save 11 = .ok (.sipush 1539, 3) := dk_17 6 3 (dk_at dksX5_save_0 11 rfl rfl)
theorem dX5_save_14 : decode cX5_save 14 = .ok (.if_icmp .ge 25, 3) := dk_162 0 25 (dk_at dksX5_save_0 14 rfl rfl)
theorem dX5_save_17 : decode cX5_save 17 = .ok (.aload_n 0, 1) := dk_42 (dk_at dksX5_save_0 17 rfl rfl)
theorem dX5_save_18 : decode cX5_save 18 = .ok (.getfield 13, 3) := dk_180 0 13 (dk_at dksX5_save_0 18 rfl rfl)
theorem dX5_save_21 : decode cX5_save 21 = .ok (.iload_n 1, 1) := dk_27 (dk_at dksX5_save_0 21 rfl rfl)
theorem dX5_save_22 : decode cX5_save 22 = .ok (.aload_n 0, 1) := dk_42 (dk_at dksX5_save_0 22 rfl rfl)
theorem dX5_save_23 : decode cX5_save 23 = .ok (.getfield 13, 3) := dk_180 0 13 (dk_at dksX5_save_1 0 rfl rfl)
theorem dX5_save_26 : decode cX5_save 26 = .ok (.iload_n 1, 1) := dk_27 (dk_at dksX5_save_1 3 rfl rfl)
theorem dX5_save_27 : decode cX5_save 27 = .ok (.sipush 513, 3) := dk_17 2 1 (dk_at dksX5_save_1 4 rfl rfl)
theorem dX5_save_30 : decode cX5_save 30 = .ok (.iadd, 1) := dk_96 (dk_at dksX5_save_1 7 rfl rfl)
theorem dX5_save_31 : decode cX5_save 31 = .ok (.laload, 1) := dk_47 (dk_at dksX5_save_1 8 rfl rfl)
theorem dX5_save_32 : decode cX5_save 32 = .ok (.lastore, 1) := dk_80 (dk_at dksX5_save_1 9 rfl rfl)
theorem dX5_save_33 : decode cX5_save 33 = .ok (.iinc 1 1, 3) := dk_132 1 1 (dk_at dksX5_save_1 10 rfl rfl)
theorem dX5_save_36 : decode cX5_save 36 = .ok (.goto (-26), 3) := dk_167 255 230 (dk_at dksX5_save_1 13 rfl rfl)
theorem dX5_save_39 : decode cX5_save 39 = .ok (.aload_n 0, 1) := dk_42 (dk_at dksX5_save_1 16 rfl rfl)
theorem dX5_save_40 : decode cX5_save 40 = .ok (.dup, 1) := dk_89 (dk_at dksX5_save_1 17 rfl rfl)
theorem dX5_save_41 : decode cX5_save 41 = .ok (.getfield 58, 3) := dk_180 0 58 (dk_at dksX5_save_1 18 rfl rfl)
theorem dX5_save_44 : decode cX5_save 44 = .ok (.iconst 1, 1) := dk_4 (dk_at dksX5_save_1 21 rfl rfl)
theorem dX5_save_45 : decode cX5_save 45 = .ok (.isub, 1) := dk_100 (dk_at dksX5_save_1 22 rfl rfl)
theorem dX5_save_46 : decode cX5_save 46 = .ok (.putfield 58, 3) := dk_181 0 58 (dk_at dksX5_save_2 0 rfl rfl)
theorem dX5_save_49 : decode cX5_save 49 = .ok (.iconst 0, 1) := dk_3 (dk_at dksX5_save_2 3 rfl rfl)
theorem dX5_save_50 : decode cX5_save 50 = .ok (.istore_n 1, 1) := dk_60 (dk_at dksX5_save_2 4 rfl rfl)
theorem dX5_save_51 : decode cX5_save 51 = .ok (.iload_n 1, 1) := dk_27 (dk_at dksX5_save_2 5 rfl rfl)
theorem dX5_save_52 : decode cX5_save 52 = .ok (.sipush 513, 3) := dk_17 2 1 (dk_at dksX5_save_2 6 rfl rfl)
theorem dX5_save_55 : decode cX5_save 55 = .ok (.if_icmp .ge 30, 3) := dk_162 0 30 (dk_at dksX5_save_2 9 rfl rfl)
theorem dX5_save_58 : decode cX5_save 58 = .ok (.aload_n 0, 1) := dk_42 (dk_at dksX5_save_2 12 rfl rfl)
theorem dX5_save_59 : decode cX5_save 59 = .ok (.getfield 13, 3) := dk_180 0 13 (dk_at dksX5_save_2 13 rfl rfl)
theorem dX5_save_62 : decode cX5_save 62 = .ok (.sipush 513, 3) := dk_17 2 1 (dk_at dksX5_save_2 16 rfl rfl)
theorem dX5_save_65 : decode cX5_save 65 = .ok (.aload_n 0, 1) := dk_42 (dk_at dksX5_save_2 19 rfl rfl)
theorem dX5_save_66 : decode cX5_save 66 = .ok (.getfield 58, 3) := dk_180 0 58 (dk_at dksX5_save_2 20 rfl rfl)
theorem dX5_save_69 : decode cX5_save 69 = .ok (.imul, 1) := dk_104 (dk_at dksX5_save_2 23 rfl rfl)
theorem dX5_save_70 : decode cX5_save 70 = .ok (.iload_n 1, 1) := dk_27 (dk_at dksX5_save_3 0 rfl rfl)
theorem dX5_save_71 : decode cX5_save 71 = .ok (.iadd, 1) := dk_96 (dk_at dksX5_save_3 1 rfl rfl)
theorem dX5_save_72 : decode cX5_save 72 = .ok (.aload_n 0, 1) := dk_42 (dk_at dksX5_save_3 2 rfl rfl)
theorem dX5_save_73 : decode cX5_save 73 = .ok (.getfield 7, 3) := dk_180 0 7 (dk_at dksX5_save_3 3 rfl rfl)
theorem dX5_save_76 : decode cX5_save 76 = .ok (.iload_n 1, 1) := dk_27 (dk_at dksX5_save_3 6 rfl rfl)
theorem dX5_save_77 : decode cX5_save 77 = .ok (.laload, 1) := dk_47 (dk_at dksX5_save_3 7 rfl rfl)
theorem dX5_save_78 : decode cX5_save 78 = .ok (.lastore, 1) := dk_80 (dk_at dksX5_save_3 8 rfl rfl)
theorem dX5_save_79 : decode cX5_save 79 = .ok (.iinc 1 1, 3) := dk_132 1 1 (dk_at dksX5_save_3 9 rfl rfl)
theorem dX5_save_82 : decode cX5_save 82 = .ok (.goto (-31), 3) := dk_167 255 225 (dk_at dksX5_save_3 12 rfl rfl)
theorem dX5_save_85 : decode cX5_save 85 = .ok (.aload_n 0, 1) := dk_42 (dk_at dksX5_save_3 15 rfl rfl)
theorem dX5_save_86 : decode cX5_save 86 = .ok (.dup, 1) := dk_89 (dk_at dksX5_save_3 16 rfl rfl)
theorem dX5_save_87 : decode cX5_save 87 = .ok (.getfield 58, 3) := dk_180 0 58 (dk_at dksX5_save_3 17 rfl rfl)
theorem dX5_save_90 : decode cX5_save 90 = .ok (.iconst 1, 1) := dk_4 (dk_at dksX5_save_3 20 rfl rfl)
theorem dX5_save_91 : decode cX5_save 91 = .ok (.iadd, 1) := dk_96 (dk_at dksX5_save_3 21 rfl rfl)
theorem dX5_save_92 : decode cX5_save 92 = .ok (.putfield 58, 3) := dk_181 0 58 (dk_at dksX5_save_4 0 rfl rfl)
theorem dX5_save_95 : decode cX5_save 95 = .ok (.return_, 1) := dk_177 (dk_at dksX5_save_4 3 rfl rfl)
abbrev cX5_setHeight : ByteArray := prog_13_method_47_code
def yX5_setHeight : MethodName := ⟨RX5, "setHeight", "(II)I"⟩
def dkwX5_setHeight_2 : List UInt8 := [80, 42, 182, 0, 195, 29, 172]
abbrev dktX5_setHeight_2 : List UInt8 := dkwX5_setHeight_2 ++ []
def dkwX5_setHeight_1 : List UInt8 := [42, 182, 0, 187, 42, 182, 0, 192, 42, 27, 182, 0, 87, 62, 42, 180, 0, 7, 16, 8, 27, 96, 28, 133]
abbrev dktX5_setHeight_1 : List UInt8 := dkwX5_setHeight_1 ++ dktX5_setHeight_2
def dkwX5_setHeight_0 : List UInt8 := [42, 42, 27, 182, 0, 73, 28, 133, 9, 20, 0, 190, 184, 0, 65, 4, 182, 0, 183, 154, 0, 5, 3, 172]
abbrev dktX5_setHeight_0 : List UInt8 := dkwX5_setHeight_0 ++ dktX5_setHeight_1
theorem dksX5_setHeight_0 : cX5_setHeight.data.toList.drop 0 = dktX5_setHeight_0 := by decide +kernel
theorem dksX5_setHeight_1 : cX5_setHeight.data.toList.drop 24 = dktX5_setHeight_1 := dk_seg dksX5_setHeight_0 24 rfl rfl
theorem dksX5_setHeight_2 : cX5_setHeight.data.toList.drop 48 = dktX5_setHeight_2 := dk_seg dksX5_setHeight_1 24 rfl rfl
theorem dX5_setHeight_0 : decode cX5_setHeight 0 = .ok (.aload_n 0, 1) := dk_42 (dk_at dksX5_setHeight_0 0 rfl rfl)
theorem dX5_setHeight_1 : decode cX5_setHeight 1 = .ok (.aload_n 0, 1) := dk_42 (dk_at dksX5_setHeight_0 1 rfl rfl)
theorem dX5_setHeight_2 : decode cX5_setHeight 2 = .ok (.iload_n 1, 1) := dk_27 (dk_at dksX5_setHeight_0 2 rfl rfl)
theorem dX5_setHeight_3 : decode cX5_setHeight 3 = .ok (.invokevirtual 73, 3) := dk_182 0 73 (dk_at dksX5_setHeight_0 3 rfl rfl)
theorem dX5_setHeight_6 : decode cX5_setHeight 6 = .ok (.iload_n 2, 1) := dk_28 (dk_at dksX5_setHeight_0 6 rfl rfl)
theorem dX5_setHeight_7 : decode cX5_setHeight 7 = .ok (.i2l, 1) := dk_133 (dk_at dksX5_setHeight_0 7 rfl rfl)
theorem dX5_setHeight_8 : decode cX5_setHeight 8 = .ok (.lconst 0, 1) := dk_9 (dk_at dksX5_setHeight_0 8 rfl rfl)
theorem dX5_setHeight_9 : decode cX5_setHeight 9 = .ok (.ldc2_w 190, 3) := dk_20 0 190 (dk_at dksX5_setHeight_0 9 rfl rfl)
theorem dX5_setHeight_12 : decode cX5_setHeight 12 = .ok (.invokestatic 65, 3) := dk_184 0 65 (dk_at dksX5_setHeight_0 12 rfl rfl)
theorem dX5_setHeight_15 : decode cX5_setHeight 15 = .ok (.iconst 1, 1) := dk_4 (dk_at dksX5_setHeight_0 15 rfl rfl)
theorem dX5_setHeight_16 : decode cX5_setHeight 16 = .ok (.invokevirtual 183, 3) := dk_182 0 183 (dk_at dksX5_setHeight_0 16 rfl rfl)
theorem dX5_setHeight_19 : decode cX5_setHeight 19 = .ok (.ifCond .ne 5, 3) := dk_154 0 5 (dk_at dksX5_setHeight_0 19 rfl rfl)
theorem dX5_setHeight_22 : decode cX5_setHeight 22 = .ok (.iconst 0, 1) := dk_3 (dk_at dksX5_setHeight_0 22 rfl rfl)
theorem dX5_setHeight_23 : decode cX5_setHeight 23 = .ok (.ireturn, 1) := dk_172 (dk_at dksX5_setHeight_0 23 rfl rfl)
theorem dX5_setHeight_24 : decode cX5_setHeight 24 = .ok (.aload_n 0, 1) := dk_42 (dk_at dksX5_setHeight_1 0 rfl rfl)
theorem dX5_setHeight_25 : decode cX5_setHeight 25 = .ok (.invokevirtual 187, 3) := dk_182 0 187 (dk_at dksX5_setHeight_1 1 rfl rfl)
theorem dX5_setHeight_28 : decode cX5_setHeight 28 = .ok (.aload_n 0, 1) := dk_42 (dk_at dksX5_setHeight_1 4 rfl rfl)
theorem dX5_setHeight_29 : decode cX5_setHeight 29 = .ok (.invokevirtual 192, 3) := dk_182 0 192 (dk_at dksX5_setHeight_1 5 rfl rfl)
theorem dX5_setHeight_32 : decode cX5_setHeight 32 = .ok (.aload_n 0, 1) := dk_42 (dk_at dksX5_setHeight_1 8 rfl rfl)
theorem dX5_setHeight_33 : decode cX5_setHeight 33 = .ok (.iload_n 1, 1) := dk_27 (dk_at dksX5_setHeight_1 9 rfl rfl)
theorem dX5_setHeight_34 : decode cX5_setHeight 34 = .ok (.invokevirtual 87, 3) := dk_182 0 87 (dk_at dksX5_setHeight_1 10 rfl rfl)
theorem dX5_setHeight_37 : decode cX5_setHeight 37 = .ok (.istore_n 3, 1) := dk_62 (dk_at dksX5_setHeight_1 13 rfl rfl)
theorem dX5_setHeight_38 : decode cX5_setHeight 38 = .ok (.aload_n 0, 1) := dk_42 (dk_at dksX5_setHeight_1 14 rfl rfl)
theorem dX5_setHeight_39 : decode cX5_setHeight 39 = .ok (.getfield 7, 3) := dk_180 0 7 (dk_at dksX5_setHeight_1 15 rfl rfl)
theorem dX5_setHeight_42 : decode cX5_setHeight 42 = .ok (.bipush 8, 2) := dk_16 8 (dk_at dksX5_setHeight_1 18 rfl rfl)
theorem dX5_setHeight_44 : decode cX5_setHeight 44 = .ok (.iload_n 1, 1) := dk_27 (dk_at dksX5_setHeight_1 20 rfl rfl)
theorem dX5_setHeight_45 : decode cX5_setHeight 45 = .ok (.iadd, 1) := dk_96 (dk_at dksX5_setHeight_1 21 rfl rfl)
theorem dX5_setHeight_46 : decode cX5_setHeight 46 = .ok (.iload_n 2, 1) := dk_28 (dk_at dksX5_setHeight_1 22 rfl rfl)
theorem dX5_setHeight_47 : decode cX5_setHeight 47 = .ok (.i2l, 1) := dk_133 (dk_at dksX5_setHeight_1 23 rfl rfl)
theorem dX5_setHeight_48 : decode cX5_setHeight 48 = .ok (.lastore, 1) := dk_80 (dk_at dksX5_setHeight_2 0 rfl rfl)
theorem dX5_setHeight_49 : decode cX5_setHeight 49 = .ok (.aload_n 0, 1) := dk_42 (dk_at dksX5_setHeight_2 1 rfl rfl)
theorem dX5_setHeight_50 : decode cX5_setHeight 50 = .ok (.invokevirtual 195, 3) := dk_182 0 195 (dk_at dksX5_setHeight_2 2 rfl rfl)
theorem dX5_setHeight_53 : decode cX5_setHeight 53 = .ok (.iload_n 3, 1) := dk_29 (dk_at dksX5_setHeight_2 5 rfl rfl)
theorem dX5_setHeight_54 : decode cX5_setHeight 54 = .ok (.ireturn, 1) := dk_172 (dk_at dksX5_setHeight_2 6 rfl rfl)
abbrev cX5_isCell : ByteArray := prog_13_method_9_code
def yX5_isCell : MethodName := ⟨RX5, "isCell", "(I)Z"⟩
def dkwX5_isCell_0 : List UInt8 := [27, 133, 9, 42, 182, 0, 61, 133, 10, 101, 184, 0, 65, 172]
abbrev dktX5_isCell_0 : List UInt8 := dkwX5_isCell_0 ++ []
theorem dksX5_isCell_0 : cX5_isCell.data.toList.drop 0 = dktX5_isCell_0 := by decide +kernel
theorem dX5_isCell_0 : decode cX5_isCell 0 = .ok (.iload_n 1, 1) := dk_27 (dk_at dksX5_isCell_0 0 rfl rfl)
theorem dX5_isCell_1 : decode cX5_isCell 1 = .ok (.i2l, 1) := dk_133 (dk_at dksX5_isCell_0 1 rfl rfl)
theorem dX5_isCell_2 : decode cX5_isCell 2 = .ok (.lconst 0, 1) := dk_9 (dk_at dksX5_isCell_0 2 rfl rfl)
theorem dX5_isCell_3 : decode cX5_isCell 3 = .ok (.aload_n 0, 1) := dk_42 (dk_at dksX5_isCell_0 3 rfl rfl)
theorem dX5_isCell_4 : decode cX5_isCell 4 = .ok (.invokevirtual 61, 3) := dk_182 0 61 (dk_at dksX5_isCell_0 4 rfl rfl)
theorem dX5_isCell_7 : decode cX5_isCell 7 = .ok (.i2l, 1) := dk_133 (dk_at dksX5_isCell_0 7 rfl rfl)
theorem dX5_isCell_8 : decode cX5_isCell 8 = .ok (.lconst 1, 1) := dk_10 (dk_at dksX5_isCell_0 8 rfl rfl)
theorem dX5_isCell_9 : decode cX5_isCell 9 = .ok (.lsub, 1) := dk_101 (dk_at dksX5_isCell_0 9 rfl rfl)
theorem dX5_isCell_10 : decode cX5_isCell 10 = .ok (.invokestatic 65, 3) := dk_184 0 65 (dk_at dksX5_isCell_0 10 rfl rfl)
theorem dX5_isCell_13 : decode cX5_isCell 13 = .ok (.ireturn, 1) := dk_172 (dk_at dksX5_isCell_0 13 rfl rfl)
abbrev cX5_remembers : ByteArray := prog_13_method_43_code
def yX5_remembers : MethodName := ⟨RX5, "remembers", "()V"⟩
def dkwX5_remembers_5 : List UInt8 := [79, 132, 1, 1, 167, 255, 149, 177]
abbrev dktX5_remembers_5 : List UInt8 := dkwX5_remembers_5 ++ []
def dkwX5_remembers_4 : List UInt8 := [182, 0, 87, 162, 0, 7, 29, 167, 0, 4, 28, 61, 132, 3, 1, 167, 255, 195, 42, 180, 0, 35, 27, 28]
abbrev dktX5_remembers_4 : List UInt8 := dkwX5_remembers_4 ++ dktX5_remembers_5
def dkwX5_remembers_3 : List UInt8 := [184, 0, 91, 54, 4, 21, 4, 153, 0, 25, 28, 2, 159, 0, 16, 42, 29, 182, 0, 87, 42, 28]
abbrev dktX5_remembers_3 : List UInt8 := dkwX5_remembers_3 ++ dktX5_remembers_4
def dkwX5_remembers_2 : List UInt8 := [29, 42, 182, 0, 61, 162, 0, 59, 42, 180, 0, 7, 17, 0, 152, 42, 180, 0, 29, 27, 46, 96, 47, 29]
abbrev dktX5_remembers_2 : List UInt8 := dkwX5_remembers_2 ++ dktX5_remembers_3
def dkwX5_remembers_1 : List UInt8 := [180, 0, 32, 27, 42, 180, 0, 7, 17, 0, 224, 42, 180, 0, 29, 27, 46, 96, 47, 80, 2, 61, 3, 62]
abbrev dktX5_remembers_1 : List UInt8 := dkwX5_remembers_1 ++ dktX5_remembers_2
def dkwX5_remembers_0 : List UInt8 := [42, 182, 0, 152, 42, 42, 180, 0, 149, 181, 0, 171, 3, 60, 27, 42, 180, 0, 149, 162, 0, 105, 42]
abbrev dktX5_remembers_0 : List UInt8 := dkwX5_remembers_0 ++ dktX5_remembers_1
theorem dksX5_remembers_0 : cX5_remembers.data.toList.drop 0 = dktX5_remembers_0 := by decide +kernel
theorem dksX5_remembers_1 : cX5_remembers.data.toList.drop 23 = dktX5_remembers_1 := dk_seg dksX5_remembers_0 23 rfl rfl
theorem dksX5_remembers_2 : cX5_remembers.data.toList.drop 47 = dktX5_remembers_2 := dk_seg dksX5_remembers_1 24 rfl rfl
theorem dksX5_remembers_3 : cX5_remembers.data.toList.drop 71 = dktX5_remembers_3 := dk_seg dksX5_remembers_2 24 rfl rfl
theorem dksX5_remembers_4 : cX5_remembers.data.toList.drop 93 = dktX5_remembers_4 := dk_seg dksX5_remembers_3 22 rfl rfl
theorem dksX5_remembers_5 : cX5_remembers.data.toList.drop 117 = dktX5_remembers_5 := dk_seg dksX5_remembers_4 24 rfl rfl
theorem dX5_remembers_0 : decode cX5_remembers 0 = .ok (.aload_n 0, 1) := dk_42 (dk_at dksX5_remembers_0 0 rfl rfl)
theorem dX5_remembers_1 : decode cX5_remembers 1 = .ok (.invokevirtual 152, 3) := dk_182 0 152 (dk_at dksX5_remembers_0 1 rfl rfl)
theorem dX5_remembers_4 : decode cX5_remembers 4 = .ok (.aload_n 0, 1) := dk_42 (dk_at dksX5_remembers_0 4 rfl rfl)
theorem dX5_remembers_5 : decode cX5_remembers 5 = .ok (.aload_n 0, 1) := dk_42 (dk_at dksX5_remembers_0 5 rfl rfl)
theorem dX5_remembers_6 : decode cX5_remembers 6 = .ok (.getfield 149, 3) := dk_180 0 149 (dk_at dksX5_remembers_0 6 rfl rfl)
theorem dX5_remembers_9 : decode cX5_remembers 9 = .ok (.putfield 171, 3) := dk_181 0 171 (dk_at dksX5_remembers_0 9 rfl rfl)
theorem dX5_remembers_12 : decode cX5_remembers 12 = .ok (.iconst 0, 1) := dk_3 (dk_at dksX5_remembers_0 12 rfl rfl)
theorem dX5_remembers_13 : decode cX5_remembers 13 = .ok (.istore_n 1, 1) := dk_60 (dk_at dksX5_remembers_0 13 rfl rfl)
theorem dX5_remembers_14 : decode cX5_remembers 14 = .ok (.iload_n 1, 1) := dk_27 (dk_at dksX5_remembers_0 14 rfl rfl)
theorem dX5_remembers_15 : decode cX5_remembers 15 = .ok (.aload_n 0, 1) := dk_42 (dk_at dksX5_remembers_0 15 rfl rfl)
theorem dX5_remembers_16 : decode cX5_remembers 16 = .ok (.getfield 149, 3) := dk_180 0 149 (dk_at dksX5_remembers_0 16 rfl rfl)
theorem dX5_remembers_19 : decode cX5_remembers 19 = .ok (.if_icmp .ge 105, 3) := dk_162 0 105 (dk_at dksX5_remembers_0 19 rfl rfl)
theorem dX5_remembers_22 : decode cX5_remembers 22 = .ok (.aload_n 0, 1) := dk_42 (dk_at dksX5_remembers_0 22 rfl rfl)
theorem dX5_remembers_23 : decode cX5_remembers 23 = .ok (.getfield 32, 3) := dk_180 0 32 (dk_at dksX5_remembers_1 0 rfl rfl)
theorem dX5_remembers_26 : decode cX5_remembers 26 = .ok (.iload_n 1, 1) := dk_27 (dk_at dksX5_remembers_1 3 rfl rfl)
theorem dX5_remembers_27 : decode cX5_remembers 27 = .ok (.aload_n 0, 1) := dk_42 (dk_at dksX5_remembers_1 4 rfl rfl)
theorem dX5_remembers_28 : decode cX5_remembers 28 = .ok (.getfield 7, 3) := dk_180 0 7 (dk_at dksX5_remembers_1 5 rfl rfl)
theorem dX5_remembers_31 : decode cX5_remembers 31 = .ok (.sipush 224, 3) := dk_17 0 224 (dk_at dksX5_remembers_1 8 rfl rfl)
theorem dX5_remembers_34 : decode cX5_remembers 34 = .ok (.aload_n 0, 1) := dk_42 (dk_at dksX5_remembers_1 11 rfl rfl)
theorem dX5_remembers_35 : decode cX5_remembers 35 = .ok (.getfield 29, 3) := dk_180 0 29 (dk_at dksX5_remembers_1 12 rfl rfl)
theorem dX5_remembers_38 : decode cX5_remembers 38 = .ok (.iload_n 1, 1) := dk_27 (dk_at dksX5_remembers_1 15 rfl rfl)
theorem dX5_remembers_39 : decode cX5_remembers 39 = .ok (.iaload, 1) := dk_46 (dk_at dksX5_remembers_1 16 rfl rfl)
theorem dX5_remembers_40 : decode cX5_remembers 40 = .ok (.iadd, 1) := dk_96 (dk_at dksX5_remembers_1 17 rfl rfl)
theorem dX5_remembers_41 : decode cX5_remembers 41 = .ok (.laload, 1) := dk_47 (dk_at dksX5_remembers_1 18 rfl rfl)
theorem dX5_remembers_42 : decode cX5_remembers 42 = .ok (.lastore, 1) := dk_80 (dk_at dksX5_remembers_1 19 rfl rfl)
theorem dX5_remembers_43 : decode cX5_remembers 43 = .ok (.iconst (-1), 1) := dk_2 (dk_at dksX5_remembers_1 20 rfl rfl)
theorem dX5_remembers_44 : decode cX5_remembers 44 = .ok (.istore_n 2, 1) := dk_61 (dk_at dksX5_remembers_1 21 rfl rfl)
theorem dX5_remembers_45 : decode cX5_remembers 45 = .ok (.iconst 0, 1) := dk_3 (dk_at dksX5_remembers_1 22 rfl rfl)
theorem dX5_remembers_46 : decode cX5_remembers 46 = .ok (.istore_n 3, 1) := dk_62 (dk_at dksX5_remembers_1 23 rfl rfl)
theorem dX5_remembers_47 : decode cX5_remembers 47 = .ok (.iload_n 3, 1) := dk_29 (dk_at dksX5_remembers_2 0 rfl rfl)
theorem dX5_remembers_48 : decode cX5_remembers 48 = .ok (.aload_n 0, 1) := dk_42 (dk_at dksX5_remembers_2 1 rfl rfl)
theorem dX5_remembers_49 : decode cX5_remembers 49 = .ok (.invokevirtual 61, 3) := dk_182 0 61 (dk_at dksX5_remembers_2 2 rfl rfl)
theorem dX5_remembers_52 : decode cX5_remembers 52 = .ok (.if_icmp .ge 59, 3) := dk_162 0 59 (dk_at dksX5_remembers_2 5 rfl rfl)
theorem dX5_remembers_55 : decode cX5_remembers 55 = .ok (.aload_n 0, 1) := dk_42 (dk_at dksX5_remembers_2 8 rfl rfl)
theorem dX5_remembers_56 : decode cX5_remembers 56 = .ok (.getfield 7, 3) := dk_180 0 7 (dk_at dksX5_remembers_2 9 rfl rfl)
theorem dX5_remembers_59 : decode cX5_remembers 59 = .ok (.sipush 152, 3) := dk_17 0 152 (dk_at dksX5_remembers_2 12 rfl rfl)
theorem dX5_remembers_62 : decode cX5_remembers 62 = .ok (.aload_n 0, 1) := dk_42 (dk_at dksX5_remembers_2 15 rfl rfl)
theorem dX5_remembers_63 : decode cX5_remembers 63 = .ok (.getfield 29, 3) := dk_180 0 29 (dk_at dksX5_remembers_2 16 rfl rfl)
theorem dX5_remembers_66 : decode cX5_remembers 66 = .ok (.iload_n 1, 1) := dk_27 (dk_at dksX5_remembers_2 19 rfl rfl)
theorem dX5_remembers_67 : decode cX5_remembers 67 = .ok (.iaload, 1) := dk_46 (dk_at dksX5_remembers_2 20 rfl rfl)
theorem dX5_remembers_68 : decode cX5_remembers 68 = .ok (.iadd, 1) := dk_96 (dk_at dksX5_remembers_2 21 rfl rfl)
theorem dX5_remembers_69 : decode cX5_remembers 69 = .ok (.laload, 1) := dk_47 (dk_at dksX5_remembers_2 22 rfl rfl)
theorem dX5_remembers_70 : decode cX5_remembers 70 = .ok (.iload_n 3, 1) := dk_29 (dk_at dksX5_remembers_2 23 rfl rfl)
theorem dX5_remembers_71 : decode cX5_remembers 71 = .ok (.invokestatic 91, 3) := dk_184 0 91 (dk_at dksX5_remembers_3 0 rfl rfl)
theorem dX5_remembers_74 : decode cX5_remembers 74 = .ok (.istore 4, 2) := dk_54 4 (dk_at dksX5_remembers_3 3 rfl rfl)
theorem dX5_remembers_76 : decode cX5_remembers 76 = .ok (.iload 4, 2) := dk_21 4 (dk_at dksX5_remembers_3 5 rfl rfl)
theorem dX5_remembers_78 : decode cX5_remembers 78 = .ok (.ifCond .eq 25, 3) := dk_153 0 25 (dk_at dksX5_remembers_3 7 rfl rfl)
theorem dX5_remembers_81 : decode cX5_remembers 81 = .ok (.iload_n 2, 1) := dk_28 (dk_at dksX5_remembers_3 10 rfl rfl)
theorem dX5_remembers_82 : decode cX5_remembers 82 = .ok (.iconst (-1), 1) := dk_2 (dk_at dksX5_remembers_3 11 rfl rfl)
theorem dX5_remembers_83 : decode cX5_remembers 83 = .ok (.if_icmp .eq 16, 3) := dk_159 0 16 (dk_at dksX5_remembers_3 12 rfl rfl)
theorem dX5_remembers_86 : decode cX5_remembers 86 = .ok (.aload_n 0, 1) := dk_42 (dk_at dksX5_remembers_3 15 rfl rfl)
theorem dX5_remembers_87 : decode cX5_remembers 87 = .ok (.iload_n 3, 1) := dk_29 (dk_at dksX5_remembers_3 16 rfl rfl)
theorem dX5_remembers_88 : decode cX5_remembers 88 = .ok (.invokevirtual 87, 3) := dk_182 0 87 (dk_at dksX5_remembers_3 17 rfl rfl)
theorem dX5_remembers_91 : decode cX5_remembers 91 = .ok (.aload_n 0, 1) := dk_42 (dk_at dksX5_remembers_3 20 rfl rfl)
theorem dX5_remembers_92 : decode cX5_remembers 92 = .ok (.iload_n 2, 1) := dk_28 (dk_at dksX5_remembers_3 21 rfl rfl)
theorem dX5_remembers_93 : decode cX5_remembers 93 = .ok (.invokevirtual 87, 3) := dk_182 0 87 (dk_at dksX5_remembers_4 0 rfl rfl)
theorem dX5_remembers_96 : decode cX5_remembers 96 = .ok (.if_icmp .ge 7, 3) := dk_162 0 7 (dk_at dksX5_remembers_4 3 rfl rfl)
theorem dX5_remembers_99 : decode cX5_remembers 99 = .ok (.iload_n 3, 1) := dk_29 (dk_at dksX5_remembers_4 6 rfl rfl)
theorem dX5_remembers_100 : decode cX5_remembers 100 = .ok (.goto 4, 3) := dk_167 0 4 (dk_at dksX5_remembers_4 7 rfl rfl)
theorem dX5_remembers_103 : decode cX5_remembers 103 = .ok (.iload_n 2, 1) := dk_28 (dk_at dksX5_remembers_4 10 rfl rfl)
theorem dX5_remembers_104 : decode cX5_remembers 104 = .ok (.istore_n 2, 1) := dk_61 (dk_at dksX5_remembers_4 11 rfl rfl)
theorem dX5_remembers_105 : decode cX5_remembers 105 = .ok (.iinc 3 1, 3) := dk_132 3 1 (dk_at dksX5_remembers_4 12 rfl rfl)
theorem dX5_remembers_108 : decode cX5_remembers 108 = .ok (.goto (-61), 3) := dk_167 255 195 (dk_at dksX5_remembers_4 15 rfl rfl)
theorem dX5_remembers_111 : decode cX5_remembers 111 = .ok (.aload_n 0, 1) := dk_42 (dk_at dksX5_remembers_4 18 rfl rfl)
theorem dX5_remembers_112 : decode cX5_remembers 112 = .ok (.getfield 35, 3) := dk_180 0 35 (dk_at dksX5_remembers_4 19 rfl rfl)
theorem dX5_remembers_115 : decode cX5_remembers 115 = .ok (.iload_n 1, 1) := dk_27 (dk_at dksX5_remembers_4 22 rfl rfl)
theorem dX5_remembers_116 : decode cX5_remembers 116 = .ok (.iload_n 2, 1) := dk_28 (dk_at dksX5_remembers_4 23 rfl rfl)
theorem dX5_remembers_117 : decode cX5_remembers 117 = .ok (.iastore, 1) := dk_79 (dk_at dksX5_remembers_5 0 rfl rfl)
theorem dX5_remembers_118 : decode cX5_remembers 118 = .ok (.iinc 1 1, 3) := dk_132 1 1 (dk_at dksX5_remembers_5 1 rfl rfl)
theorem dX5_remembers_121 : decode cX5_remembers 121 = .ok (.goto (-107), 3) := dk_167 255 149 (dk_at dksX5_remembers_5 4 rfl rfl)
theorem dX5_remembers_124 : decode cX5_remembers 124 = .ok (.return_, 1) := dk_177 (dk_at dksX5_remembers_5 7 rfl rfl)
abbrev cX5_orders : ByteArray := prog_13_method_33_code
def yX5_orders : MethodName := ⟨RX5, "orders", "()V"⟩
def dkwX5_orders_2 : List UInt8 := [42, 180, 0, 149, 28, 79, 42, 89, 180, 0, 149, 4, 96, 181, 0, 149, 132, 1, 1, 167, 255, 197, 177]
abbrev dktX5_orders_2 : List UInt8 := dkwX5_orders_2 ++ []
def dkwX5_orders_1 : List UInt8 := [159, 0, 40, 42, 180, 0, 7, 17, 0, 152, 28, 96, 47, 184, 0, 111, 27, 160, 0, 23, 42, 180, 0, 29]
abbrev dktX5_orders_1 : List UInt8 := dkwX5_orders_1 ++ dktX5_orders_2
def dkwX5_orders_0 : List UInt8 := [42, 3, 181, 0, 149, 3, 60, 27, 42, 182, 0, 61, 162, 0, 57, 42, 27, 182, 0, 133, 61, 28, 2]
abbrev dktX5_orders_0 : List UInt8 := dkwX5_orders_0 ++ dktX5_orders_1
theorem dksX5_orders_0 : cX5_orders.data.toList.drop 0 = dktX5_orders_0 := by decide +kernel
theorem dksX5_orders_1 : cX5_orders.data.toList.drop 23 = dktX5_orders_1 := dk_seg dksX5_orders_0 23 rfl rfl
theorem dksX5_orders_2 : cX5_orders.data.toList.drop 47 = dktX5_orders_2 := dk_seg dksX5_orders_1 24 rfl rfl
theorem dX5_orders_0 : decode cX5_orders 0 = .ok (.aload_n 0, 1) := dk_42 (dk_at dksX5_orders_0 0 rfl rfl)
theorem dX5_orders_1 : decode cX5_orders 1 = .ok (.iconst 0, 1) := dk_3 (dk_at dksX5_orders_0 1 rfl rfl)
theorem dX5_orders_2 : decode cX5_orders 2 = .ok (.putfield 149, 3) := dk_181 0 149 (dk_at dksX5_orders_0 2 rfl rfl)
theorem dX5_orders_5 : decode cX5_orders 5 = .ok (.iconst 0, 1) := dk_3 (dk_at dksX5_orders_0 5 rfl rfl)
theorem dX5_orders_6 : decode cX5_orders 6 = .ok (.istore_n 1, 1) := dk_60 (dk_at dksX5_orders_0 6 rfl rfl)
theorem dX5_orders_7 : decode cX5_orders 7 = .ok (.iload_n 1, 1) := dk_27 (dk_at dksX5_orders_0 7 rfl rfl)
theorem dX5_orders_8 : decode cX5_orders 8 = .ok (.aload_n 0, 1) := dk_42 (dk_at dksX5_orders_0 8 rfl rfl)
theorem dX5_orders_9 : decode cX5_orders 9 = .ok (.invokevirtual 61, 3) := dk_182 0 61 (dk_at dksX5_orders_0 9 rfl rfl)
theorem dX5_orders_12 : decode cX5_orders 12 = .ok (.if_icmp .ge 57, 3) := dk_162 0 57 (dk_at dksX5_orders_0 12 rfl rfl)
theorem dX5_orders_15 : decode cX5_orders 15 = .ok (.aload_n 0, 1) := dk_42 (dk_at dksX5_orders_0 15 rfl rfl)
theorem dX5_orders_16 : decode cX5_orders 16 = .ok (.iload_n 1, 1) := dk_27 (dk_at dksX5_orders_0 16 rfl rfl)
theorem dX5_orders_17 : decode cX5_orders 17 = .ok (.invokevirtual 133, 3) := dk_182 0 133 (dk_at dksX5_orders_0 17 rfl rfl)
theorem dX5_orders_20 : decode cX5_orders 20 = .ok (.istore_n 2, 1) := dk_61 (dk_at dksX5_orders_0 20 rfl rfl)
theorem dX5_orders_21 : decode cX5_orders 21 = .ok (.iload_n 2, 1) := dk_28 (dk_at dksX5_orders_0 21 rfl rfl)
theorem dX5_orders_22 : decode cX5_orders 22 = .ok (.iconst (-1), 1) := dk_2 (dk_at dksX5_orders_0 22 rfl rfl)
theorem dX5_orders_23 : decode cX5_orders 23 = .ok (.if_icmp .eq 40, 3) := dk_159 0 40 (dk_at dksX5_orders_1 0 rfl rfl)
theorem dX5_orders_26 : decode cX5_orders 26 = .ok (.aload_n 0, 1) := dk_42 (dk_at dksX5_orders_1 3 rfl rfl)
theorem dX5_orders_27 : decode cX5_orders 27 = .ok (.getfield 7, 3) := dk_180 0 7 (dk_at dksX5_orders_1 4 rfl rfl)
theorem dX5_orders_30 : decode cX5_orders 30 = .ok (.sipush 152, 3) := dk_17 0 152 (dk_at dksX5_orders_1 7 rfl rfl)
theorem dX5_orders_33 : decode cX5_orders 33 = .ok (.iload_n 2, 1) := dk_28 (dk_at dksX5_orders_1 10 rfl rfl)
theorem dX5_orders_34 : decode cX5_orders 34 = .ok (.iadd, 1) := dk_96 (dk_at dksX5_orders_1 11 rfl rfl)
theorem dX5_orders_35 : decode cX5_orders 35 = .ok (.laload, 1) := dk_47 (dk_at dksX5_orders_1 12 rfl rfl)
theorem dX5_orders_36 : decode cX5_orders 36 = .ok (.invokestatic 111, 3) := dk_184 0 111 (dk_at dksX5_orders_1 13 rfl rfl)
theorem dX5_orders_39 : decode cX5_orders 39 = .ok (.iload_n 1, 1) := dk_27 (dk_at dksX5_orders_1 16 rfl rfl)
theorem dX5_orders_40 : decode cX5_orders 40 = .ok (.if_icmp .ne 23, 3) := dk_160 0 23 (dk_at dksX5_orders_1 17 rfl rfl)
theorem dX5_orders_43 : decode cX5_orders 43 = .ok (.aload_n 0, 1) := dk_42 (dk_at dksX5_orders_1 20 rfl rfl)
theorem dX5_orders_44 : decode cX5_orders 44 = .ok (.getfield 29, 3) := dk_180 0 29 (dk_at dksX5_orders_1 21 rfl rfl)
theorem dX5_orders_47 : decode cX5_orders 47 = .ok (.aload_n 0, 1) := dk_42 (dk_at dksX5_orders_2 0 rfl rfl)
theorem dX5_orders_48 : decode cX5_orders 48 = .ok (.getfield 149, 3) := dk_180 0 149 (dk_at dksX5_orders_2 1 rfl rfl)
theorem dX5_orders_51 : decode cX5_orders 51 = .ok (.iload_n 2, 1) := dk_28 (dk_at dksX5_orders_2 4 rfl rfl)
theorem dX5_orders_52 : decode cX5_orders 52 = .ok (.iastore, 1) := dk_79 (dk_at dksX5_orders_2 5 rfl rfl)
theorem dX5_orders_53 : decode cX5_orders 53 = .ok (.aload_n 0, 1) := dk_42 (dk_at dksX5_orders_2 6 rfl rfl)
theorem dX5_orders_54 : decode cX5_orders 54 = .ok (.dup, 1) := dk_89 (dk_at dksX5_orders_2 7 rfl rfl)
theorem dX5_orders_55 : decode cX5_orders 55 = .ok (.getfield 149, 3) := dk_180 0 149 (dk_at dksX5_orders_2 8 rfl rfl)
theorem dX5_orders_58 : decode cX5_orders 58 = .ok (.iconst 1, 1) := dk_4 (dk_at dksX5_orders_2 11 rfl rfl)
theorem dX5_orders_59 : decode cX5_orders 59 = .ok (.iadd, 1) := dk_96 (dk_at dksX5_orders_2 12 rfl rfl)
theorem dX5_orders_60 : decode cX5_orders 60 = .ok (.putfield 149, 3) := dk_181 0 149 (dk_at dksX5_orders_2 13 rfl rfl)
theorem dX5_orders_63 : decode cX5_orders 63 = .ok (.iinc 1 1, 3) := dk_132 1 1 (dk_at dksX5_orders_2 16 rfl rfl)
theorem dX5_orders_66 : decode cX5_orders 66 = .ok (.goto (-59), 3) := dk_167 255 197 (dk_at dksX5_orders_2 19 rfl rfl)
theorem dX5_orders_69 : decode cX5_orders 69 = .ok (.return_, 1) := dk_177 (dk_at dksX5_orders_2 22 rfl rfl)
abbrev cX5_lakeOf : ByteArray := prog_13_method_28_code
def yX5_lakeOf : MethodName := ⟨RX5, "lakeOf", "(I)I"⟩
def dkwX5_lakeOf_2 : List UInt8 := [28, 61, 132, 3, 1, 167, 255, 209, 28, 172]
abbrev dktX5_lakeOf_2 : List UInt8 := dkwX5_lakeOf_2 ++ []
def dkwX5_lakeOf_1 : List UInt8 := [154, 0, 24, 42, 180, 0, 7, 17, 0, 152, 29, 96, 47, 27, 184, 0, 91, 153, 0, 7, 29, 167, 0, 4]
abbrev dktX5_lakeOf_1 : List UInt8 := dkwX5_lakeOf_1 ++ dktX5_lakeOf_2
def dkwX5_lakeOf_0 : List UInt8 := [2, 61, 3, 62, 29, 16, 72, 162, 0, 47, 42, 180, 0, 7, 17, 1, 184, 29, 96, 47, 10, 148]
abbrev dktX5_lakeOf_0 : List UInt8 := dkwX5_lakeOf_0 ++ dktX5_lakeOf_1
theorem dksX5_lakeOf_0 : cX5_lakeOf.data.toList.drop 0 = dktX5_lakeOf_0 := by decide +kernel
theorem dksX5_lakeOf_1 : cX5_lakeOf.data.toList.drop 22 = dktX5_lakeOf_1 := dk_seg dksX5_lakeOf_0 22 rfl rfl
theorem dksX5_lakeOf_2 : cX5_lakeOf.data.toList.drop 46 = dktX5_lakeOf_2 := dk_seg dksX5_lakeOf_1 24 rfl rfl
theorem dX5_lakeOf_0 : decode cX5_lakeOf 0 = .ok (.iconst (-1), 1) := dk_2 (dk_at dksX5_lakeOf_0 0 rfl rfl)
theorem dX5_lakeOf_1 : decode cX5_lakeOf 1 = .ok (.istore_n 2, 1) := dk_61 (dk_at dksX5_lakeOf_0 1 rfl rfl)
theorem dX5_lakeOf_2 : decode cX5_lakeOf 2 = .ok (.iconst 0, 1) := dk_3 (dk_at dksX5_lakeOf_0 2 rfl rfl)
theorem dX5_lakeOf_3 : decode cX5_lakeOf 3 = .ok (.istore_n 3, 1) := dk_62 (dk_at dksX5_lakeOf_0 3 rfl rfl)
theorem dX5_lakeOf_4 : decode cX5_lakeOf 4 = .ok (.iload_n 3, 1) := dk_29 (dk_at dksX5_lakeOf_0 4 rfl rfl)
theorem dX5_lakeOf_5 : decode cX5_lakeOf 5 = .ok (.bipush 72, 2) := dk_16 72 (dk_at dksX5_lakeOf_0 5 rfl rfl)
theorem dX5_lakeOf_7 : decode cX5_lakeOf 7 = .ok (.if_icmp .ge 47, 3) := dk_162 0 47 (dk_at dksX5_lakeOf_0 7 rfl rfl)
theorem dX5_lakeOf_10 : decode cX5_lakeOf 10 = .ok (.aload_n 0, 1) := dk_42 (dk_at dksX5_lakeOf_0 10 rfl rfl)
theorem dX5_lakeOf_11 : decode cX5_lakeOf 11 = .ok (.getfield 7, 3) := dk_180 0 7 (dk_at dksX5_lakeOf_0 11 rfl rfl)
theorem dX5_lakeOf_14 : decode cX5_lakeOf 14 = .ok (.sipush 440, 3) := dk_17 1 184 (dk_at dksX5_lakeOf_0 14 rfl rfl)
theorem dX5_lakeOf_17 : decode cX5_lakeOf 17 = .ok (.iload_n 3, 1) := dk_29 (dk_at dksX5_lakeOf_0 17 rfl rfl)
theorem dX5_lakeOf_18 : decode cX5_lakeOf 18 = .ok (.iadd, 1) := dk_96 (dk_at dksX5_lakeOf_0 18 rfl rfl)
theorem dX5_lakeOf_19 : decode cX5_lakeOf 19 = .ok (.laload, 1) := dk_47 (dk_at dksX5_lakeOf_0 19 rfl rfl)
theorem dX5_lakeOf_20 : decode cX5_lakeOf 20 = .ok (.lconst 1, 1) := dk_10 (dk_at dksX5_lakeOf_0 20 rfl rfl)
theorem dX5_lakeOf_21 : decode cX5_lakeOf 21 = .ok (.lcmp, 1) := dk_148 (dk_at dksX5_lakeOf_0 21 rfl rfl)
theorem dX5_lakeOf_22 : decode cX5_lakeOf 22 = .ok (.ifCond .ne 24, 3) := dk_154 0 24 (dk_at dksX5_lakeOf_1 0 rfl rfl)
theorem dX5_lakeOf_25 : decode cX5_lakeOf 25 = .ok (.aload_n 0, 1) := dk_42 (dk_at dksX5_lakeOf_1 3 rfl rfl)
theorem dX5_lakeOf_26 : decode cX5_lakeOf 26 = .ok (.getfield 7, 3) := dk_180 0 7 (dk_at dksX5_lakeOf_1 4 rfl rfl)
theorem dX5_lakeOf_29 : decode cX5_lakeOf 29 = .ok (.sipush 152, 3) := dk_17 0 152 (dk_at dksX5_lakeOf_1 7 rfl rfl)
theorem dX5_lakeOf_32 : decode cX5_lakeOf 32 = .ok (.iload_n 3, 1) := dk_29 (dk_at dksX5_lakeOf_1 10 rfl rfl)
theorem dX5_lakeOf_33 : decode cX5_lakeOf 33 = .ok (.iadd, 1) := dk_96 (dk_at dksX5_lakeOf_1 11 rfl rfl)
theorem dX5_lakeOf_34 : decode cX5_lakeOf 34 = .ok (.laload, 1) := dk_47 (dk_at dksX5_lakeOf_1 12 rfl rfl)
theorem dX5_lakeOf_35 : decode cX5_lakeOf 35 = .ok (.iload_n 1, 1) := dk_27 (dk_at dksX5_lakeOf_1 13 rfl rfl)
theorem dX5_lakeOf_36 : decode cX5_lakeOf 36 = .ok (.invokestatic 91, 3) := dk_184 0 91 (dk_at dksX5_lakeOf_1 14 rfl rfl)
theorem dX5_lakeOf_39 : decode cX5_lakeOf 39 = .ok (.ifCond .eq 7, 3) := dk_153 0 7 (dk_at dksX5_lakeOf_1 17 rfl rfl)
theorem dX5_lakeOf_42 : decode cX5_lakeOf 42 = .ok (.iload_n 3, 1) := dk_29 (dk_at dksX5_lakeOf_1 20 rfl rfl)
theorem dX5_lakeOf_43 : decode cX5_lakeOf 43 = .ok (.goto 4, 3) := dk_167 0 4 (dk_at dksX5_lakeOf_1 21 rfl rfl)
theorem dX5_lakeOf_46 : decode cX5_lakeOf 46 = .ok (.iload_n 2, 1) := dk_28 (dk_at dksX5_lakeOf_2 0 rfl rfl)
theorem dX5_lakeOf_47 : decode cX5_lakeOf 47 = .ok (.istore_n 2, 1) := dk_61 (dk_at dksX5_lakeOf_2 1 rfl rfl)
theorem dX5_lakeOf_48 : decode cX5_lakeOf 48 = .ok (.iinc 3 1, 3) := dk_132 3 1 (dk_at dksX5_lakeOf_2 2 rfl rfl)
theorem dX5_lakeOf_51 : decode cX5_lakeOf 51 = .ok (.goto (-47), 3) := dk_167 255 209 (dk_at dksX5_lakeOf_2 5 rfl rfl)
theorem dX5_lakeOf_54 : decode cX5_lakeOf 54 = .ok (.iload_n 2, 1) := dk_28 (dk_at dksX5_lakeOf_2 8 rfl rfl)
theorem dX5_lakeOf_55 : decode cX5_lakeOf 55 = .ok (.ireturn, 1) := dk_172 (dk_at dksX5_lakeOf_2 9 rfl rfl)
abbrev cX5_changes : ByteArray := prog_13_method_44_code
def yX5_changes : MethodName := ⟨RX5, "changes", "()V"⟩
def dkwX5_changes_1 : List UInt8 := [180, 0, 32, 27, 47, 182, 0, 177, 132, 1, 1, 167, 255, 229, 177]
abbrev dktX5_changes_1 : List UInt8 := dkwX5_changes_1 ++ []
def dkwX5_changes_0 : List UInt8 := [42, 182, 0, 174, 3, 60, 27, 42, 180, 0, 171, 162, 0, 25, 42, 42, 180, 0, 35, 27, 46, 42]
abbrev dktX5_changes_0 : List UInt8 := dkwX5_changes_0 ++ dktX5_changes_1
theorem dksX5_changes_0 : cX5_changes.data.toList.drop 0 = dktX5_changes_0 := by decide +kernel
theorem dksX5_changes_1 : cX5_changes.data.toList.drop 22 = dktX5_changes_1 := dk_seg dksX5_changes_0 22 rfl rfl
theorem dX5_changes_0 : decode cX5_changes 0 = .ok (.aload_n 0, 1) := dk_42 (dk_at dksX5_changes_0 0 rfl rfl)
theorem dX5_changes_1 : decode cX5_changes 1 = .ok (.invokevirtual 174, 3) := dk_182 0 174 (dk_at dksX5_changes_0 1 rfl rfl)
theorem dX5_changes_4 : decode cX5_changes 4 = .ok (.iconst 0, 1) := dk_3 (dk_at dksX5_changes_0 4 rfl rfl)
theorem dX5_changes_5 : decode cX5_changes 5 = .ok (.istore_n 1, 1) := dk_60 (dk_at dksX5_changes_0 5 rfl rfl)
theorem dX5_changes_6 : decode cX5_changes 6 = .ok (.iload_n 1, 1) := dk_27 (dk_at dksX5_changes_0 6 rfl rfl)
theorem dX5_changes_7 : decode cX5_changes 7 = .ok (.aload_n 0, 1) := dk_42 (dk_at dksX5_changes_0 7 rfl rfl)
theorem dX5_changes_8 : decode cX5_changes 8 = .ok (.getfield 171, 3) := dk_180 0 171 (dk_at dksX5_changes_0 8 rfl rfl)
theorem dX5_changes_11 : decode cX5_changes 11 = .ok (.if_icmp .ge 25, 3) := dk_162 0 25 (dk_at dksX5_changes_0 11 rfl rfl)
theorem dX5_changes_14 : decode cX5_changes 14 = .ok (.aload_n 0, 1) := dk_42 (dk_at dksX5_changes_0 14 rfl rfl)
theorem dX5_changes_15 : decode cX5_changes 15 = .ok (.aload_n 0, 1) := dk_42 (dk_at dksX5_changes_0 15 rfl rfl)
theorem dX5_changes_16 : decode cX5_changes 16 = .ok (.getfield 35, 3) := dk_180 0 35 (dk_at dksX5_changes_0 16 rfl rfl)
theorem dX5_changes_19 : decode cX5_changes 19 = .ok (.iload_n 1, 1) := dk_27 (dk_at dksX5_changes_0 19 rfl rfl)
theorem dX5_changes_20 : decode cX5_changes 20 = .ok (.iaload, 1) := dk_46 (dk_at dksX5_changes_0 20 rfl rfl)
theorem dX5_changes_21 : decode cX5_changes 21 = .ok (.aload_n 0, 1) := dk_42 (dk_at dksX5_changes_0 21 rfl rfl)
theorem dX5_changes_22 : decode cX5_changes 22 = .ok (.getfield 32, 3) := dk_180 0 32 (dk_at dksX5_changes_1 0 rfl rfl)
theorem dX5_changes_25 : decode cX5_changes 25 = .ok (.iload_n 1, 1) := dk_27 (dk_at dksX5_changes_1 3 rfl rfl)
theorem dX5_changes_26 : decode cX5_changes 26 = .ok (.laload, 1) := dk_47 (dk_at dksX5_changes_1 4 rfl rfl)
theorem dX5_changes_27 : decode cX5_changes 27 = .ok (.invokevirtual 177, 3) := dk_182 0 177 (dk_at dksX5_changes_1 5 rfl rfl)
theorem dX5_changes_30 : decode cX5_changes 30 = .ok (.iinc 1 1, 3) := dk_132 1 1 (dk_at dksX5_changes_1 8 rfl rfl)
theorem dX5_changes_33 : decode cX5_changes 33 = .ok (.goto (-27), 3) := dk_167 255 229 (dk_at dksX5_changes_1 11 rfl rfl)
theorem dX5_changes_36 : decode cX5_changes 36 = .ok (.return_, 1) := dk_177 (dk_at dksX5_changes_1 14 rfl rfl)
abbrev cX5_pours : ByteArray := prog_13_method_30_code
def yX5_pours : MethodName := ⟨RX5, "pours", "(IJ)V"⟩
def dkwX5_pours_8 : List UInt8 := [54, 4, 167, 255, 75, 177]
abbrev dktX5_pours_8 : List UInt8 := dkwX5_pours_8 ++ []
def dkwX5_pours_7 : List UInt8 := [167, 0, 4, 3, 54, 14, 21, 14, 153, 0, 14, 42, 21, 4, 21, 13, 182, 0, 139, 167, 0, 5, 21, 13]
abbrev dktX5_pours_7 : List UInt8 := dkwX5_pours_7 ++ dktX5_pours_8
def dkwX5_pours_6 : List UInt8 := [2, 159, 0, 25, 42, 21, 13, 182, 0, 136, 153, 0, 16, 42, 180, 0, 114, 21, 9, 160, 0, 7, 4]
abbrev dktX5_pours_6 : List UInt8 := dkwX5_pours_6 ++ dktX5_pours_7
def dkwX5_pours_5 : List UInt8 := [22, 5, 22, 11, 101, 55, 5, 22, 5, 9, 148, 158, 0, 62, 42, 21, 10, 182, 0, 133, 54, 13, 21, 13]
abbrev dktX5_pours_5 : List UInt8 := dkwX5_pours_5 ++ dktX5_pours_6
def dkwX5_pours_4 : List UInt8 := [167, 0, 5, 22, 7, 55, 11, 42, 180, 0, 7, 17, 0, 224, 21, 4, 96, 92, 47, 22, 11, 97, 80]
abbrev dktX5_pours_4 : List UInt8 := dkwX5_pours_4 ++ dktX5_pours_5
def dkwX5_pours_3 : List UInt8 := [42, 180, 0, 7, 17, 0, 224, 21, 4, 96, 47, 101, 55, 7, 22, 5, 22, 7, 148, 156, 0, 8, 22, 5]
abbrev dktX5_pours_3 : List UInt8 := dkwX5_pours_3 ++ dktX5_pours_4
def dkwX5_pours_2 : List UInt8 := [54, 9, 42, 180, 0, 120, 54, 10, 22, 7, 20, 0, 109, 148, 154, 0, 8, 22, 5, 167, 0, 17, 22, 7]
abbrev dktX5_pours_2 : List UInt8 := dkwX5_pours_2 ++ dktX5_pours_3
def dkwX5_pours_1 : List UInt8 := [180, 0, 7, 6, 92, 47, 22, 5, 97, 80, 177, 42, 21, 4, 182, 0, 127, 55, 7, 42, 180, 0, 114]
abbrev dktX5_pours_1 : List UInt8 := dkwX5_pours_1 ++ dktX5_pours_2
def dkwX5_pours_0 : List UInt8 := [42, 27, 182, 0, 133, 54, 4, 32, 55, 5, 22, 5, 9, 148, 158, 0, 180, 21, 4, 2, 160, 0, 15, 42]
abbrev dktX5_pours_0 : List UInt8 := dkwX5_pours_0 ++ dktX5_pours_1
theorem dksX5_pours_0 : cX5_pours.data.toList.drop 0 = dktX5_pours_0 := by decide +kernel
theorem dksX5_pours_1 : cX5_pours.data.toList.drop 24 = dktX5_pours_1 := dk_seg dksX5_pours_0 24 rfl rfl
theorem dksX5_pours_2 : cX5_pours.data.toList.drop 47 = dktX5_pours_2 := dk_seg dksX5_pours_1 23 rfl rfl
theorem dksX5_pours_3 : cX5_pours.data.toList.drop 71 = dktX5_pours_3 := dk_seg dksX5_pours_2 24 rfl rfl
theorem dksX5_pours_4 : cX5_pours.data.toList.drop 95 = dktX5_pours_4 := dk_seg dksX5_pours_3 24 rfl rfl
theorem dksX5_pours_5 : cX5_pours.data.toList.drop 118 = dktX5_pours_5 := dk_seg dksX5_pours_4 23 rfl rfl
theorem dksX5_pours_6 : cX5_pours.data.toList.drop 142 = dktX5_pours_6 := dk_seg dksX5_pours_5 24 rfl rfl
theorem dksX5_pours_7 : cX5_pours.data.toList.drop 165 = dktX5_pours_7 := dk_seg dksX5_pours_6 23 rfl rfl
theorem dksX5_pours_8 : cX5_pours.data.toList.drop 189 = dktX5_pours_8 := dk_seg dksX5_pours_7 24 rfl rfl
theorem dX5_pours_0 : decode cX5_pours 0 = .ok (.aload_n 0, 1) := dk_42 (dk_at dksX5_pours_0 0 rfl rfl)
theorem dX5_pours_1 : decode cX5_pours 1 = .ok (.iload_n 1, 1) := dk_27 (dk_at dksX5_pours_0 1 rfl rfl)
theorem dX5_pours_2 : decode cX5_pours 2 = .ok (.invokevirtual 133, 3) := dk_182 0 133 (dk_at dksX5_pours_0 2 rfl rfl)
theorem dX5_pours_5 : decode cX5_pours 5 = .ok (.istore 4, 2) := dk_54 4 (dk_at dksX5_pours_0 5 rfl rfl)
theorem dX5_pours_7 : decode cX5_pours 7 = .ok (.lload_n 2, 1) := dk_32 (dk_at dksX5_pours_0 7 rfl rfl)
theorem dX5_pours_8 : decode cX5_pours 8 = .ok (.lstore 5, 2) := dk_55 5 (dk_at dksX5_pours_0 8 rfl rfl)
theorem dX5_pours_10 : decode cX5_pours 10 = .ok (.lload 5, 2) := dk_22 5 (dk_at dksX5_pours_0 10 rfl rfl)
theorem dX5_pours_12 : decode cX5_pours 12 = .ok (.lconst 0, 1) := dk_9 (dk_at dksX5_pours_0 12 rfl rfl)
theorem dX5_pours_13 : decode cX5_pours 13 = .ok (.lcmp, 1) := dk_148 (dk_at dksX5_pours_0 13 rfl rfl)
theorem dX5_pours_14 : decode cX5_pours 14 = .ok (.ifCond .le 180, 3) := dk_158 0 180 (dk_at dksX5_pours_0 14 rfl rfl)
theorem dX5_pours_17 : decode cX5_pours 17 = .ok (.iload 4, 2) := dk_21 4 (dk_at dksX5_pours_0 17 rfl rfl)
theorem dX5_pours_19 : decode cX5_pours 19 = .ok (.iconst (-1), 1) := dk_2 (dk_at dksX5_pours_0 19 rfl rfl)
theorem dX5_pours_20 : decode cX5_pours 20 = .ok (.if_icmp .ne 15, 3) := dk_160 0 15 (dk_at dksX5_pours_0 20 rfl rfl)
theorem dX5_pours_23 : decode cX5_pours 23 = .ok (.aload_n 0, 1) := dk_42 (dk_at dksX5_pours_0 23 rfl rfl)
theorem dX5_pours_24 : decode cX5_pours 24 = .ok (.getfield 7, 3) := dk_180 0 7 (dk_at dksX5_pours_1 0 rfl rfl)
theorem dX5_pours_27 : decode cX5_pours 27 = .ok (.iconst 3, 1) := dk_6 (dk_at dksX5_pours_1 3 rfl rfl)
theorem dX5_pours_28 : decode cX5_pours 28 = .ok (.dup2, 1) := dk_92 (dk_at dksX5_pours_1 4 rfl rfl)
theorem dX5_pours_29 : decode cX5_pours 29 = .ok (.laload, 1) := dk_47 (dk_at dksX5_pours_1 5 rfl rfl)
theorem dX5_pours_30 : decode cX5_pours 30 = .ok (.lload 5, 2) := dk_22 5 (dk_at dksX5_pours_1 6 rfl rfl)
theorem dX5_pours_32 : decode cX5_pours 32 = .ok (.ladd, 1) := dk_97 (dk_at dksX5_pours_1 8 rfl rfl)
theorem dX5_pours_33 : decode cX5_pours 33 = .ok (.lastore, 1) := dk_80 (dk_at dksX5_pours_1 9 rfl rfl)
theorem dX5_pours_34 : decode cX5_pours 34 = .ok (.return_, 1) := dk_177 (dk_at dksX5_pours_1 10 rfl rfl)
theorem dX5_pours_35 : decode cX5_pours 35 = .ok (.aload_n 0, 1) := dk_42 (dk_at dksX5_pours_1 11 rfl rfl)
theorem dX5_pours_36 : decode cX5_pours 36 = .ok (.iload 4, 2) := dk_21 4 (dk_at dksX5_pours_1 12 rfl rfl)
theorem dX5_pours_38 : decode cX5_pours 38 = .ok (.invokevirtual 127, 3) := dk_182 0 127 (dk_at dksX5_pours_1 14 rfl rfl)
theorem dX5_pours_41 : decode cX5_pours 41 = .ok (.lstore 7, 2) := dk_55 7 (dk_at dksX5_pours_1 17 rfl rfl)
theorem dX5_pours_43 : decode cX5_pours 43 = .ok (.aload_n 0, 1) := dk_42 (dk_at dksX5_pours_1 19 rfl rfl)
theorem dX5_pours_44 : decode cX5_pours 44 = .ok (.getfield 114, 3) := dk_180 0 114 (dk_at dksX5_pours_1 20 rfl rfl)
theorem dX5_pours_47 : decode cX5_pours 47 = .ok (.istore 9, 2) := dk_54 9 (dk_at dksX5_pours_2 0 rfl rfl)
theorem dX5_pours_49 : decode cX5_pours 49 = .ok (.aload_n 0, 1) := dk_42 (dk_at dksX5_pours_2 2 rfl rfl)
theorem dX5_pours_50 : decode cX5_pours 50 = .ok (.getfield 120, 3) := dk_180 0 120 (dk_at dksX5_pours_2 3 rfl rfl)
theorem dX5_pours_53 : decode cX5_pours 53 = .ok (.istore 10, 2) := dk_54 10 (dk_at dksX5_pours_2 6 rfl rfl)
theorem dX5_pours_55 : decode cX5_pours 55 = .ok (.lload 7, 2) := dk_22 7 (dk_at dksX5_pours_2 8 rfl rfl)
theorem dX5_pours_57 : decode cX5_pours 57 = .ok (.ldc2_w 109, 3) := dk_20 0 109 (dk_at dksX5_pours_2 10 rfl rfl)
theorem dX5_pours_60 : decode cX5_pours 60 = .ok (.lcmp, 1) := dk_148 (dk_at dksX5_pours_2 13 rfl rfl)
theorem dX5_pours_61 : decode cX5_pours 61 = .ok (.ifCond .ne 8, 3) := dk_154 0 8 (dk_at dksX5_pours_2 14 rfl rfl)
theorem dX5_pours_64 : decode cX5_pours 64 = .ok (.lload 5, 2) := dk_22 5 (dk_at dksX5_pours_2 17 rfl rfl)
theorem dX5_pours_66 : decode cX5_pours 66 = .ok (.goto 17, 3) := dk_167 0 17 (dk_at dksX5_pours_2 19 rfl rfl)
theorem dX5_pours_69 : decode cX5_pours 69 = .ok (.lload 7, 2) := dk_22 7 (dk_at dksX5_pours_2 22 rfl rfl)
theorem dX5_pours_71 : decode cX5_pours 71 = .ok (.aload_n 0, 1) := dk_42 (dk_at dksX5_pours_3 0 rfl rfl)
theorem dX5_pours_72 : decode cX5_pours 72 = .ok (.getfield 7, 3) := dk_180 0 7 (dk_at dksX5_pours_3 1 rfl rfl)
theorem dX5_pours_75 : decode cX5_pours 75 = .ok (.sipush 224, 3) := dk_17 0 224 (dk_at dksX5_pours_3 4 rfl rfl)
theorem dX5_pours_78 : decode cX5_pours 78 = .ok (.iload 4, 2) := dk_21 4 (dk_at dksX5_pours_3 7 rfl rfl)
theorem dX5_pours_80 : decode cX5_pours 80 = .ok (.iadd, 1) := dk_96 (dk_at dksX5_pours_3 9 rfl rfl)
theorem dX5_pours_81 : decode cX5_pours 81 = .ok (.laload, 1) := dk_47 (dk_at dksX5_pours_3 10 rfl rfl)
theorem dX5_pours_82 : decode cX5_pours 82 = .ok (.lsub, 1) := dk_101 (dk_at dksX5_pours_3 11 rfl rfl)
theorem dX5_pours_83 : decode cX5_pours 83 = .ok (.lstore 7, 2) := dk_55 7 (dk_at dksX5_pours_3 12 rfl rfl)
theorem dX5_pours_85 : decode cX5_pours 85 = .ok (.lload 5, 2) := dk_22 5 (dk_at dksX5_pours_3 14 rfl rfl)
theorem dX5_pours_87 : decode cX5_pours 87 = .ok (.lload 7, 2) := dk_22 7 (dk_at dksX5_pours_3 16 rfl rfl)
theorem dX5_pours_89 : decode cX5_pours 89 = .ok (.lcmp, 1) := dk_148 (dk_at dksX5_pours_3 18 rfl rfl)
theorem dX5_pours_90 : decode cX5_pours 90 = .ok (.ifCond .ge 8, 3) := dk_156 0 8 (dk_at dksX5_pours_3 19 rfl rfl)
theorem dX5_pours_93 : decode cX5_pours 93 = .ok (.lload 5, 2) := dk_22 5 (dk_at dksX5_pours_3 22 rfl rfl)
theorem dX5_pours_95 : decode cX5_pours 95 = .ok (.goto 5, 3) := dk_167 0 5 (dk_at dksX5_pours_4 0 rfl rfl)
theorem dX5_pours_98 : decode cX5_pours 98 = .ok (.lload 7, 2) := dk_22 7 (dk_at dksX5_pours_4 3 rfl rfl)
theorem dX5_pours_100 : decode cX5_pours 100 = .ok (.lstore 11, 2) := dk_55 11 (dk_at dksX5_pours_4 5 rfl rfl)
theorem dX5_pours_102 : decode cX5_pours 102 = .ok (.aload_n 0, 1) := dk_42 (dk_at dksX5_pours_4 7 rfl rfl)
theorem dX5_pours_103 : decode cX5_pours 103 = .ok (.getfield 7, 3) := dk_180 0 7 (dk_at dksX5_pours_4 8 rfl rfl)
theorem dX5_pours_106 : decode cX5_pours 106 = .ok (.sipush 224, 3) := dk_17 0 224 (dk_at dksX5_pours_4 11 rfl rfl)
theorem dX5_pours_109 : decode cX5_pours 109 = .ok (.iload 4, 2) := dk_21 4 (dk_at dksX5_pours_4 14 rfl rfl)
theorem dX5_pours_111 : decode cX5_pours 111 = .ok (.iadd, 1) := dk_96 (dk_at dksX5_pours_4 16 rfl rfl)
theorem dX5_pours_112 : decode cX5_pours 112 = .ok (.dup2, 1) := dk_92 (dk_at dksX5_pours_4 17 rfl rfl)
theorem dX5_pours_113 : decode cX5_pours 113 = .ok (.laload, 1) := dk_47 (dk_at dksX5_pours_4 18 rfl rfl)
theorem dX5_pours_114 : decode cX5_pours 114 = .ok (.lload 11, 2) := dk_22 11 (dk_at dksX5_pours_4 19 rfl rfl)
theorem dX5_pours_116 : decode cX5_pours 116 = .ok (.ladd, 1) := dk_97 (dk_at dksX5_pours_4 21 rfl rfl)
theorem dX5_pours_117 : decode cX5_pours 117 = .ok (.lastore, 1) := dk_80 (dk_at dksX5_pours_4 22 rfl rfl)
theorem dX5_pours_118 : decode cX5_pours 118 = .ok (.lload 5, 2) := dk_22 5 (dk_at dksX5_pours_5 0 rfl rfl)
theorem dX5_pours_120 : decode cX5_pours 120 = .ok (.lload 11, 2) := dk_22 11 (dk_at dksX5_pours_5 2 rfl rfl)
theorem dX5_pours_122 : decode cX5_pours 122 = .ok (.lsub, 1) := dk_101 (dk_at dksX5_pours_5 4 rfl rfl)
theorem dX5_pours_123 : decode cX5_pours 123 = .ok (.lstore 5, 2) := dk_55 5 (dk_at dksX5_pours_5 5 rfl rfl)
theorem dX5_pours_125 : decode cX5_pours 125 = .ok (.lload 5, 2) := dk_22 5 (dk_at dksX5_pours_5 7 rfl rfl)
theorem dX5_pours_127 : decode cX5_pours 127 = .ok (.lconst 0, 1) := dk_9 (dk_at dksX5_pours_5 9 rfl rfl)
theorem dX5_pours_128 : decode cX5_pours 128 = .ok (.lcmp, 1) := dk_148 (dk_at dksX5_pours_5 10 rfl rfl)
theorem dX5_pours_129 : decode cX5_pours 129 = .ok (.ifCond .le 62, 3) := dk_158 0 62 (dk_at dksX5_pours_5 11 rfl rfl)
theorem dX5_pours_132 : decode cX5_pours 132 = .ok (.aload_n 0, 1) := dk_42 (dk_at dksX5_pours_5 14 rfl rfl)
theorem dX5_pours_133 : decode cX5_pours 133 = .ok (.iload 10, 2) := dk_21 10 (dk_at dksX5_pours_5 15 rfl rfl)
theorem dX5_pours_135 : decode cX5_pours 135 = .ok (.invokevirtual 133, 3) := dk_182 0 133 (dk_at dksX5_pours_5 17 rfl rfl)
theorem dX5_pours_138 : decode cX5_pours 138 = .ok (.istore 13, 2) := dk_54 13 (dk_at dksX5_pours_5 20 rfl rfl)
theorem dX5_pours_140 : decode cX5_pours 140 = .ok (.iload 13, 2) := dk_21 13 (dk_at dksX5_pours_5 22 rfl rfl)
theorem dX5_pours_142 : decode cX5_pours 142 = .ok (.iconst (-1), 1) := dk_2 (dk_at dksX5_pours_6 0 rfl rfl)
theorem dX5_pours_143 : decode cX5_pours 143 = .ok (.if_icmp .eq 25, 3) := dk_159 0 25 (dk_at dksX5_pours_6 1 rfl rfl)
theorem dX5_pours_146 : decode cX5_pours 146 = .ok (.aload_n 0, 1) := dk_42 (dk_at dksX5_pours_6 4 rfl rfl)
theorem dX5_pours_147 : decode cX5_pours 147 = .ok (.iload 13, 2) := dk_21 13 (dk_at dksX5_pours_6 5 rfl rfl)
theorem dX5_pours_149 : decode cX5_pours 149 = .ok (.invokevirtual 136, 3) := dk_182 0 136 (dk_at dksX5_pours_6 7 rfl rfl)
theorem dX5_pours_152 : decode cX5_pours 152 = .ok (.ifCond .eq 16, 3) := dk_153 0 16 (dk_at dksX5_pours_6 10 rfl rfl)
theorem dX5_pours_155 : decode cX5_pours 155 = .ok (.aload_n 0, 1) := dk_42 (dk_at dksX5_pours_6 13 rfl rfl)
theorem dX5_pours_156 : decode cX5_pours 156 = .ok (.getfield 114, 3) := dk_180 0 114 (dk_at dksX5_pours_6 14 rfl rfl)
theorem dX5_pours_159 : decode cX5_pours 159 = .ok (.iload 9, 2) := dk_21 9 (dk_at dksX5_pours_6 17 rfl rfl)
theorem dX5_pours_161 : decode cX5_pours 161 = .ok (.if_icmp .ne 7, 3) := dk_160 0 7 (dk_at dksX5_pours_6 19 rfl rfl)
theorem dX5_pours_164 : decode cX5_pours 164 = .ok (.iconst 1, 1) := dk_4 (dk_at dksX5_pours_6 22 rfl rfl)
theorem dX5_pours_165 : decode cX5_pours 165 = .ok (.goto 4, 3) := dk_167 0 4 (dk_at dksX5_pours_7 0 rfl rfl)
theorem dX5_pours_168 : decode cX5_pours 168 = .ok (.iconst 0, 1) := dk_3 (dk_at dksX5_pours_7 3 rfl rfl)
theorem dX5_pours_169 : decode cX5_pours 169 = .ok (.istore 14, 2) := dk_54 14 (dk_at dksX5_pours_7 4 rfl rfl)
theorem dX5_pours_171 : decode cX5_pours 171 = .ok (.iload 14, 2) := dk_21 14 (dk_at dksX5_pours_7 6 rfl rfl)
theorem dX5_pours_173 : decode cX5_pours 173 = .ok (.ifCond .eq 14, 3) := dk_153 0 14 (dk_at dksX5_pours_7 8 rfl rfl)
theorem dX5_pours_176 : decode cX5_pours 176 = .ok (.aload_n 0, 1) := dk_42 (dk_at dksX5_pours_7 11 rfl rfl)
theorem dX5_pours_177 : decode cX5_pours 177 = .ok (.iload 4, 2) := dk_21 4 (dk_at dksX5_pours_7 12 rfl rfl)
theorem dX5_pours_179 : decode cX5_pours 179 = .ok (.iload 13, 2) := dk_21 13 (dk_at dksX5_pours_7 14 rfl rfl)
theorem dX5_pours_181 : decode cX5_pours 181 = .ok (.invokevirtual 139, 3) := dk_182 0 139 (dk_at dksX5_pours_7 16 rfl rfl)
theorem dX5_pours_184 : decode cX5_pours 184 = .ok (.goto 5, 3) := dk_167 0 5 (dk_at dksX5_pours_7 19 rfl rfl)
theorem dX5_pours_187 : decode cX5_pours 187 = .ok (.iload 13, 2) := dk_21 13 (dk_at dksX5_pours_7 22 rfl rfl)
theorem dX5_pours_189 : decode cX5_pours 189 = .ok (.istore 4, 2) := dk_54 4 (dk_at dksX5_pours_8 0 rfl rfl)
theorem dX5_pours_191 : decode cX5_pours 191 = .ok (.goto (-181), 3) := dk_167 255 75 (dk_at dksX5_pours_8 2 rfl rfl)
theorem dX5_pours_194 : decode cX5_pours 194 = .ok (.return_, 1) := dk_177 (dk_at dksX5_pours_8 5 rfl rfl)
abbrev cX5_capacity : ByteArray := prog_13_method_24_code
def yX5_capacity : MethodName := ⟨RX5, "capacity", "(I)J"⟩
def dkwX5_capacity_4 : List UInt8 := [167, 0, 4, 32, 173]
abbrev dktX5_capacity_4 : List UInt8 := dkwX5_capacity_4 ++ []
def dkwX5_capacity_3 : List UInt8 := [167, 0, 4, 9, 97, 65, 132, 4, 1, 167, 255, 186, 42, 180, 0, 114, 2, 160, 0, 9, 20, 0, 109]
abbrev dktX5_capacity_3 : List UInt8 := dkwX5_capacity_3 ++ dktX5_capacity_4
def dkwX5_capacity_2 : List UInt8 := [21, 4, 182, 0, 87, 42, 180, 0, 114, 162, 0, 18, 42, 180, 0, 114, 42, 21, 4, 182, 0, 87, 100, 133]
abbrev dktX5_capacity_2 : List UInt8 := dkwX5_capacity_2 ++ dktX5_capacity_3
def dkwX5_capacity_1 : List UInt8 := [159, 0, 59, 32, 42, 180, 0, 7, 17, 0, 152, 27, 96, 47, 21, 4, 184, 0, 91, 153, 0, 31, 42]
abbrev dktX5_capacity_1 : List UInt8 := dkwX5_capacity_1 ++ dktX5_capacity_2
def dkwX5_capacity_0 : List UInt8 := [42, 27, 182, 0, 123, 9, 65, 3, 54, 4, 21, 4, 42, 182, 0, 61, 162, 0, 67, 42, 180, 0, 114, 2]
abbrev dktX5_capacity_0 : List UInt8 := dkwX5_capacity_0 ++ dktX5_capacity_1
theorem dksX5_capacity_0 : cX5_capacity.data.toList.drop 0 = dktX5_capacity_0 := by decide +kernel
theorem dksX5_capacity_1 : cX5_capacity.data.toList.drop 24 = dktX5_capacity_1 := dk_seg dksX5_capacity_0 24 rfl rfl
theorem dksX5_capacity_2 : cX5_capacity.data.toList.drop 47 = dktX5_capacity_2 := dk_seg dksX5_capacity_1 23 rfl rfl
theorem dksX5_capacity_3 : cX5_capacity.data.toList.drop 71 = dktX5_capacity_3 := dk_seg dksX5_capacity_2 24 rfl rfl
theorem dksX5_capacity_4 : cX5_capacity.data.toList.drop 94 = dktX5_capacity_4 := dk_seg dksX5_capacity_3 23 rfl rfl
theorem dX5_capacity_0 : decode cX5_capacity 0 = .ok (.aload_n 0, 1) := dk_42 (dk_at dksX5_capacity_0 0 rfl rfl)
theorem dX5_capacity_1 : decode cX5_capacity 1 = .ok (.iload_n 1, 1) := dk_27 (dk_at dksX5_capacity_0 1 rfl rfl)
theorem dX5_capacity_2 : decode cX5_capacity 2 = .ok (.invokevirtual 123, 3) := dk_182 0 123 (dk_at dksX5_capacity_0 2 rfl rfl)
theorem dX5_capacity_5 : decode cX5_capacity 5 = .ok (.lconst 0, 1) := dk_9 (dk_at dksX5_capacity_0 5 rfl rfl)
theorem dX5_capacity_6 : decode cX5_capacity 6 = .ok (.lstore_n 2, 1) := dk_65 (dk_at dksX5_capacity_0 6 rfl rfl)
theorem dX5_capacity_7 : decode cX5_capacity 7 = .ok (.iconst 0, 1) := dk_3 (dk_at dksX5_capacity_0 7 rfl rfl)
theorem dX5_capacity_8 : decode cX5_capacity 8 = .ok (.istore 4, 2) := dk_54 4 (dk_at dksX5_capacity_0 8 rfl rfl)
theorem dX5_capacity_10 : decode cX5_capacity 10 = .ok (.iload 4, 2) := dk_21 4 (dk_at dksX5_capacity_0 10 rfl rfl)
theorem dX5_capacity_12 : decode cX5_capacity 12 = .ok (.aload_n 0, 1) := dk_42 (dk_at dksX5_capacity_0 12 rfl rfl)
theorem dX5_capacity_13 : decode cX5_capacity 13 = .ok (.invokevirtual 61, 3) := dk_182 0 61 (dk_at dksX5_capacity_0 13 rfl rfl)
theorem dX5_capacity_16 : decode cX5_capacity 16 = .ok (.if_icmp .ge 67, 3) := dk_162 0 67 (dk_at dksX5_capacity_0 16 rfl rfl)
theorem dX5_capacity_19 : decode cX5_capacity 19 = .ok (.aload_n 0, 1) := dk_42 (dk_at dksX5_capacity_0 19 rfl rfl)
theorem dX5_capacity_20 : decode cX5_capacity 20 = .ok (.getfield 114, 3) := dk_180 0 114 (dk_at dksX5_capacity_0 20 rfl rfl)
theorem dX5_capacity_23 : decode cX5_capacity 23 = .ok (.iconst (-1), 1) := dk_2 (dk_at dksX5_capacity_0 23 rfl rfl)
theorem dX5_capacity_24 : decode cX5_capacity 24 = .ok (.if_icmp .eq 59, 3) := dk_159 0 59 (dk_at dksX5_capacity_1 0 rfl rfl)
theorem dX5_capacity_27 : decode cX5_capacity 27 = .ok (.lload_n 2, 1) := dk_32 (dk_at dksX5_capacity_1 3 rfl rfl)
theorem dX5_capacity_28 : decode cX5_capacity 28 = .ok (.aload_n 0, 1) := dk_42 (dk_at dksX5_capacity_1 4 rfl rfl)
theorem dX5_capacity_29 : decode cX5_capacity 29 = .ok (.getfield 7, 3) := dk_180 0 7 (dk_at dksX5_capacity_1 5 rfl rfl)
theorem dX5_capacity_32 : decode cX5_capacity 32 = .ok (.sipush 152, 3) := dk_17 0 152 (dk_at dksX5_capacity_1 8 rfl rfl)
theorem dX5_capacity_35 : decode cX5_capacity 35 = .ok (.iload_n 1, 1) := dk_27 (dk_at dksX5_capacity_1 11 rfl rfl)
theorem dX5_capacity_36 : decode cX5_capacity 36 = .ok (.iadd, 1) := dk_96 (dk_at dksX5_capacity_1 12 rfl rfl)
theorem dX5_capacity_37 : decode cX5_capacity 37 = .ok (.laload, 1) := dk_47 (dk_at dksX5_capacity_1 13 rfl rfl)
theorem dX5_capacity_38 : decode cX5_capacity 38 = .ok (.iload 4, 2) := dk_21 4 (dk_at dksX5_capacity_1 14 rfl rfl)
theorem dX5_capacity_40 : decode cX5_capacity 40 = .ok (.invokestatic 91, 3) := dk_184 0 91 (dk_at dksX5_capacity_1 16 rfl rfl)
theorem dX5_capacity_43 : decode cX5_capacity 43 = .ok (.ifCond .eq 31, 3) := dk_153 0 31 (dk_at dksX5_capacity_1 19 rfl rfl)
theorem dX5_capacity_46 : decode cX5_capacity 46 = .ok (.aload_n 0, 1) := dk_42 (dk_at dksX5_capacity_1 22 rfl rfl)
theorem dX5_capacity_47 : decode cX5_capacity 47 = .ok (.iload 4, 2) := dk_21 4 (dk_at dksX5_capacity_2 0 rfl rfl)
theorem dX5_capacity_49 : decode cX5_capacity 49 = .ok (.invokevirtual 87, 3) := dk_182 0 87 (dk_at dksX5_capacity_2 2 rfl rfl)
theorem dX5_capacity_52 : decode cX5_capacity 52 = .ok (.aload_n 0, 1) := dk_42 (dk_at dksX5_capacity_2 5 rfl rfl)
theorem dX5_capacity_53 : decode cX5_capacity 53 = .ok (.getfield 114, 3) := dk_180 0 114 (dk_at dksX5_capacity_2 6 rfl rfl)
theorem dX5_capacity_56 : decode cX5_capacity 56 = .ok (.if_icmp .ge 18, 3) := dk_162 0 18 (dk_at dksX5_capacity_2 9 rfl rfl)
theorem dX5_capacity_59 : decode cX5_capacity 59 = .ok (.aload_n 0, 1) := dk_42 (dk_at dksX5_capacity_2 12 rfl rfl)
theorem dX5_capacity_60 : decode cX5_capacity 60 = .ok (.getfield 114, 3) := dk_180 0 114 (dk_at dksX5_capacity_2 13 rfl rfl)
theorem dX5_capacity_63 : decode cX5_capacity 63 = .ok (.aload_n 0, 1) := dk_42 (dk_at dksX5_capacity_2 16 rfl rfl)
theorem dX5_capacity_64 : decode cX5_capacity 64 = .ok (.iload 4, 2) := dk_21 4 (dk_at dksX5_capacity_2 17 rfl rfl)
theorem dX5_capacity_66 : decode cX5_capacity 66 = .ok (.invokevirtual 87, 3) := dk_182 0 87 (dk_at dksX5_capacity_2 19 rfl rfl)
theorem dX5_capacity_69 : decode cX5_capacity 69 = .ok (.isub, 1) := dk_100 (dk_at dksX5_capacity_2 22 rfl rfl)
theorem dX5_capacity_70 : decode cX5_capacity 70 = .ok (.i2l, 1) := dk_133 (dk_at dksX5_capacity_2 23 rfl rfl)
theorem dX5_capacity_71 : decode cX5_capacity 71 = .ok (.goto 4, 3) := dk_167 0 4 (dk_at dksX5_capacity_3 0 rfl rfl)
theorem dX5_capacity_74 : decode cX5_capacity 74 = .ok (.lconst 0, 1) := dk_9 (dk_at dksX5_capacity_3 3 rfl rfl)
theorem dX5_capacity_75 : decode cX5_capacity 75 = .ok (.ladd, 1) := dk_97 (dk_at dksX5_capacity_3 4 rfl rfl)
theorem dX5_capacity_76 : decode cX5_capacity 76 = .ok (.lstore_n 2, 1) := dk_65 (dk_at dksX5_capacity_3 5 rfl rfl)
theorem dX5_capacity_77 : decode cX5_capacity 77 = .ok (.iinc 4 1, 3) := dk_132 4 1 (dk_at dksX5_capacity_3 6 rfl rfl)
theorem dX5_capacity_80 : decode cX5_capacity 80 = .ok (.goto (-70), 3) := dk_167 255 186 (dk_at dksX5_capacity_3 9 rfl rfl)
theorem dX5_capacity_83 : decode cX5_capacity 83 = .ok (.aload_n 0, 1) := dk_42 (dk_at dksX5_capacity_3 12 rfl rfl)
theorem dX5_capacity_84 : decode cX5_capacity 84 = .ok (.getfield 114, 3) := dk_180 0 114 (dk_at dksX5_capacity_3 13 rfl rfl)
theorem dX5_capacity_87 : decode cX5_capacity 87 = .ok (.iconst (-1), 1) := dk_2 (dk_at dksX5_capacity_3 16 rfl rfl)
theorem dX5_capacity_88 : decode cX5_capacity 88 = .ok (.if_icmp .ne 9, 3) := dk_160 0 9 (dk_at dksX5_capacity_3 17 rfl rfl)
theorem dX5_capacity_91 : decode cX5_capacity 91 = .ok (.ldc2_w 109, 3) := dk_20 0 109 (dk_at dksX5_capacity_3 20 rfl rfl)
theorem dX5_capacity_94 : decode cX5_capacity 94 = .ok (.goto 4, 3) := dk_167 0 4 (dk_at dksX5_capacity_4 0 rfl rfl)
theorem dX5_capacity_97 : decode cX5_capacity 97 = .ok (.lload_n 2, 1) := dk_32 (dk_at dksX5_capacity_4 3 rfl rfl)
theorem dX5_capacity_98 : decode cX5_capacity 98 = .ok (.lreturn, 1) := dk_173 (dk_at dksX5_capacity_4 4 rfl rfl)
abbrev cX5_findsPass : ByteArray := prog_13_method_23_code
def yX5_findsPass : MethodName := ⟨RX5, "findsPass", "(I)V"⟩
def dkwX5_findsPass_5 : List UInt8 := [21, 4, 181, 0, 117, 42, 21, 6, 181, 0, 120, 132, 5, 1, 167, 255, 166, 132, 4, 1, 167, 255, 148, 177]
abbrev dktX5_findsPass_5 : List UInt8 := dkwX5_findsPass_5 ++ []
def dkwX5_findsPass_4 : List UInt8 := [182, 0, 84, 42, 180, 0, 114, 162, 0, 27, 42, 42, 21, 4, 21, 6, 182, 0, 84, 181, 0, 114, 42]
abbrev dktX5_findsPass_4 : List UInt8 := dkwX5_findsPass_4 ++ dktX5_findsPass_5
def dkwX5_findsPass_3 : List UInt8 := [32, 21, 6, 184, 0, 91, 154, 0, 50, 42, 180, 0, 114, 2, 159, 0, 18, 42, 21, 4, 21, 6]
abbrev dktX5_findsPass_3 : List UInt8 := dkwX5_findsPass_3 ++ dktX5_findsPass_4
def dkwX5_findsPass_2 : List UInt8 := [21, 4, 184, 0, 91, 153, 0, 81, 42, 21, 4, 21, 5, 182, 0, 69, 54, 6, 21, 6, 2, 159, 0, 59]
abbrev dktX5_findsPass_2 : List UInt8 := dkwX5_findsPass_2 ++ dktX5_findsPass_3
def dkwX5_findsPass_1 : List UInt8 := [47, 65, 3, 54, 4, 21, 4, 42, 182, 0, 61, 162, 0, 105, 3, 54, 5, 21, 5, 7, 162, 0, 90, 32]
abbrev dktX5_findsPass_1 : List UInt8 := dkwX5_findsPass_1 ++ dktX5_findsPass_2
def dkwX5_findsPass_0 : List UInt8 := [42, 2, 181, 0, 114, 42, 2, 181, 0, 117, 42, 2, 181, 0, 120, 42, 180, 0, 7, 17, 0, 152, 27, 96]
abbrev dktX5_findsPass_0 : List UInt8 := dkwX5_findsPass_0 ++ dktX5_findsPass_1
theorem dksX5_findsPass_0 : cX5_findsPass.data.toList.drop 0 = dktX5_findsPass_0 := by decide +kernel
theorem dksX5_findsPass_1 : cX5_findsPass.data.toList.drop 24 = dktX5_findsPass_1 := dk_seg dksX5_findsPass_0 24 rfl rfl
theorem dksX5_findsPass_2 : cX5_findsPass.data.toList.drop 48 = dktX5_findsPass_2 := dk_seg dksX5_findsPass_1 24 rfl rfl
theorem dksX5_findsPass_3 : cX5_findsPass.data.toList.drop 72 = dktX5_findsPass_3 := dk_seg dksX5_findsPass_2 24 rfl rfl
theorem dksX5_findsPass_4 : cX5_findsPass.data.toList.drop 94 = dktX5_findsPass_4 := dk_seg dksX5_findsPass_3 22 rfl rfl
theorem dksX5_findsPass_5 : cX5_findsPass.data.toList.drop 117 = dktX5_findsPass_5 := dk_seg dksX5_findsPass_4 23 rfl rfl
theorem dX5_findsPass_0 : decode cX5_findsPass 0 = .ok (.aload_n 0, 1) := dk_42 (dk_at dksX5_findsPass_0 0 rfl rfl)
theorem dX5_findsPass_1 : decode cX5_findsPass 1 = .ok (.iconst (-1), 1) := dk_2 (dk_at dksX5_findsPass_0 1 rfl rfl)
theorem dX5_findsPass_2 : decode cX5_findsPass 2 = .ok (.putfield 114, 3) := dk_181 0 114 (dk_at dksX5_findsPass_0 2 rfl rfl)
theorem dX5_findsPass_5 : decode cX5_findsPass 5 = .ok (.aload_n 0, 1) := dk_42 (dk_at dksX5_findsPass_0 5 rfl rfl)
theorem dX5_findsPass_6 : decode cX5_findsPass 6 = .ok (.iconst (-1), 1) := dk_2 (dk_at dksX5_findsPass_0 6 rfl rfl)
theorem dX5_findsPass_7 : decode cX5_findsPass 7 = .ok (.putfield 117, 3) := dk_181 0 117 (dk_at dksX5_findsPass_0 7 rfl rfl)
theorem dX5_findsPass_10 : decode cX5_findsPass 10 = .ok (.aload_n 0, 1) := dk_42 (dk_at dksX5_findsPass_0 10 rfl rfl)
theorem dX5_findsPass_11 : decode cX5_findsPass 11 = .ok (.iconst (-1), 1) := dk_2 (dk_at dksX5_findsPass_0 11 rfl rfl)
theorem dX5_findsPass_12 : decode cX5_findsPass 12 = .ok (.putfield 120, 3) := dk_181 0 120 (dk_at dksX5_findsPass_0 12 rfl rfl)
theorem dX5_findsPass_15 : decode cX5_findsPass 15 = .ok (.aload_n 0, 1) := dk_42 (dk_at dksX5_findsPass_0 15 rfl rfl)
theorem dX5_findsPass_16 : decode cX5_findsPass 16 = .ok (.getfield 7, 3) := dk_180 0 7 (dk_at dksX5_findsPass_0 16 rfl rfl)
theorem dX5_findsPass_19 : decode cX5_findsPass 19 = .ok (.sipush 152, 3) := dk_17 0 152 (dk_at dksX5_findsPass_0 19 rfl rfl)
theorem dX5_findsPass_22 : decode cX5_findsPass 22 = .ok (.iload_n 1, 1) := dk_27 (dk_at dksX5_findsPass_0 22 rfl rfl)
theorem dX5_findsPass_23 : decode cX5_findsPass 23 = .ok (.iadd, 1) := dk_96 (dk_at dksX5_findsPass_0 23 rfl rfl)
theorem dX5_findsPass_24 : decode cX5_findsPass 24 = .ok (.laload, 1) := dk_47 (dk_at dksX5_findsPass_1 0 rfl rfl)
theorem dX5_findsPass_25 : decode cX5_findsPass 25 = .ok (.lstore_n 2, 1) := dk_65 (dk_at dksX5_findsPass_1 1 rfl rfl)
theorem dX5_findsPass_26 : decode cX5_findsPass 26 = .ok (.iconst 0, 1) := dk_3 (dk_at dksX5_findsPass_1 2 rfl rfl)
theorem dX5_findsPass_27 : decode cX5_findsPass 27 = .ok (.istore 4, 2) := dk_54 4 (dk_at dksX5_findsPass_1 3 rfl rfl)
theorem dX5_findsPass_29 : decode cX5_findsPass 29 = .ok (.iload 4, 2) := dk_21 4 (dk_at dksX5_findsPass_1 5 rfl rfl)
theorem dX5_findsPass_31 : decode cX5_findsPass 31 = .ok (.aload_n 0, 1) := dk_42 (dk_at dksX5_findsPass_1 7 rfl rfl)
theorem dX5_findsPass_32 : decode cX5_findsPass 32 = .ok (.invokevirtual 61, 3) := dk_182 0 61 (dk_at dksX5_findsPass_1 8 rfl rfl)
theorem dX5_findsPass_35 : decode cX5_findsPass 35 = .ok (.if_icmp .ge 105, 3) := dk_162 0 105 (dk_at dksX5_findsPass_1 11 rfl rfl)
theorem dX5_findsPass_38 : decode cX5_findsPass 38 = .ok (.iconst 0, 1) := dk_3 (dk_at dksX5_findsPass_1 14 rfl rfl)
theorem dX5_findsPass_39 : decode cX5_findsPass 39 = .ok (.istore 5, 2) := dk_54 5 (dk_at dksX5_findsPass_1 15 rfl rfl)
theorem dX5_findsPass_41 : decode cX5_findsPass 41 = .ok (.iload 5, 2) := dk_21 5 (dk_at dksX5_findsPass_1 17 rfl rfl)
theorem dX5_findsPass_43 : decode cX5_findsPass 43 = .ok (.iconst 4, 1) := dk_7 (dk_at dksX5_findsPass_1 19 rfl rfl)
theorem dX5_findsPass_44 : decode cX5_findsPass 44 = .ok (.if_icmp .ge 90, 3) := dk_162 0 90 (dk_at dksX5_findsPass_1 20 rfl rfl)
theorem dX5_findsPass_47 : decode cX5_findsPass 47 = .ok (.lload_n 2, 1) := dk_32 (dk_at dksX5_findsPass_1 23 rfl rfl)
theorem dX5_findsPass_48 : decode cX5_findsPass 48 = .ok (.iload 4, 2) := dk_21 4 (dk_at dksX5_findsPass_2 0 rfl rfl)
theorem dX5_findsPass_50 : decode cX5_findsPass 50 = .ok (.invokestatic 91, 3) := dk_184 0 91 (dk_at dksX5_findsPass_2 2 rfl rfl)
theorem dX5_findsPass_53 : decode cX5_findsPass 53 = .ok (.ifCond .eq 81, 3) := dk_153 0 81 (dk_at dksX5_findsPass_2 5 rfl rfl)
theorem dX5_findsPass_56 : decode cX5_findsPass 56 = .ok (.aload_n 0, 1) := dk_42 (dk_at dksX5_findsPass_2 8 rfl rfl)
theorem dX5_findsPass_57 : decode cX5_findsPass 57 = .ok (.iload 4, 2) := dk_21 4 (dk_at dksX5_findsPass_2 9 rfl rfl)
theorem dX5_findsPass_59 : decode cX5_findsPass 59 = .ok (.iload 5, 2) := dk_21 5 (dk_at dksX5_findsPass_2 11 rfl rfl)
theorem dX5_findsPass_61 : decode cX5_findsPass 61 = .ok (.invokevirtual 69, 3) := dk_182 0 69 (dk_at dksX5_findsPass_2 13 rfl rfl)
theorem dX5_findsPass_64 : decode cX5_findsPass 64 = .ok (.istore 6, 2) := dk_54 6 (dk_at dksX5_findsPass_2 16 rfl rfl)
theorem dX5_findsPass_66 : decode cX5_findsPass 66 = .ok (.iload 6, 2) := dk_21 6 (dk_at dksX5_findsPass_2 18 rfl rfl)
theorem dX5_findsPass_68 : decode cX5_findsPass 68 = .ok (.iconst (-1), 1) := dk_2 (dk_at dksX5_findsPass_2 20 rfl rfl)
theorem dX5_findsPass_69 : decode cX5_findsPass 69 = .ok (.if_icmp .eq 59, 3) := dk_159 0 59 (dk_at dksX5_findsPass_2 21 rfl rfl)
theorem dX5_findsPass_72 : decode cX5_findsPass 72 = .ok (.lload_n 2, 1) := dk_32 (dk_at dksX5_findsPass_3 0 rfl rfl)
theorem dX5_findsPass_73 : decode cX5_findsPass 73 = .ok (.iload 6, 2) := dk_21 6 (dk_at dksX5_findsPass_3 1 rfl rfl)
theorem dX5_findsPass_75 : decode cX5_findsPass 75 = .ok (.invokestatic 91, 3) := dk_184 0 91 (dk_at dksX5_findsPass_3 3 rfl rfl)
theorem dX5_findsPass_78 : decode cX5_findsPass 78 = .ok (.ifCond .ne 50, 3) := dk_154 0 50 (dk_at dksX5_findsPass_3 6 rfl rfl)
theorem dX5_findsPass_81 : decode cX5_findsPass 81 = .ok (.aload_n 0, 1) := dk_42 (dk_at dksX5_findsPass_3 9 rfl rfl)
theorem dX5_findsPass_82 : decode cX5_findsPass 82 = .ok (.getfield 114, 3) := dk_180 0 114 (dk_at dksX5_findsPass_3 10 rfl rfl)
theorem dX5_findsPass_85 : decode cX5_findsPass 85 = .ok (.iconst (-1), 1) := dk_2 (dk_at dksX5_findsPass_3 13 rfl rfl)
theorem dX5_findsPass_86 : decode cX5_findsPass 86 = .ok (.if_icmp .eq 18, 3) := dk_159 0 18 (dk_at dksX5_findsPass_3 14 rfl rfl)
theorem dX5_findsPass_89 : decode cX5_findsPass 89 = .ok (.aload_n 0, 1) := dk_42 (dk_at dksX5_findsPass_3 17 rfl rfl)
theorem dX5_findsPass_90 : decode cX5_findsPass 90 = .ok (.iload 4, 2) := dk_21 4 (dk_at dksX5_findsPass_3 18 rfl rfl)
theorem dX5_findsPass_92 : decode cX5_findsPass 92 = .ok (.iload 6, 2) := dk_21 6 (dk_at dksX5_findsPass_3 20 rfl rfl)
theorem dX5_findsPass_94 : decode cX5_findsPass 94 = .ok (.invokevirtual 84, 3) := dk_182 0 84 (dk_at dksX5_findsPass_4 0 rfl rfl)
theorem dX5_findsPass_97 : decode cX5_findsPass 97 = .ok (.aload_n 0, 1) := dk_42 (dk_at dksX5_findsPass_4 3 rfl rfl)
theorem dX5_findsPass_98 : decode cX5_findsPass 98 = .ok (.getfield 114, 3) := dk_180 0 114 (dk_at dksX5_findsPass_4 4 rfl rfl)
theorem dX5_findsPass_101 : decode cX5_findsPass 101 = .ok (.if_icmp .ge 27, 3) := dk_162 0 27 (dk_at dksX5_findsPass_4 7 rfl rfl)
theorem dX5_findsPass_104 : decode cX5_findsPass 104 = .ok (.aload_n 0, 1) := dk_42 (dk_at dksX5_findsPass_4 10 rfl rfl)
theorem dX5_findsPass_105 : decode cX5_findsPass 105 = .ok (.aload_n 0, 1) := dk_42 (dk_at dksX5_findsPass_4 11 rfl rfl)
theorem dX5_findsPass_106 : decode cX5_findsPass 106 = .ok (.iload 4, 2) := dk_21 4 (dk_at dksX5_findsPass_4 12 rfl rfl)
theorem dX5_findsPass_108 : decode cX5_findsPass 108 = .ok (.iload 6, 2) := dk_21 6 (dk_at dksX5_findsPass_4 14 rfl rfl)
theorem dX5_findsPass_110 : decode cX5_findsPass 110 = .ok (.invokevirtual 84, 3) := dk_182 0 84 (dk_at dksX5_findsPass_4 16 rfl rfl)
theorem dX5_findsPass_113 : decode cX5_findsPass 113 = .ok (.putfield 114, 3) := dk_181 0 114 (dk_at dksX5_findsPass_4 19 rfl rfl)
theorem dX5_findsPass_116 : decode cX5_findsPass 116 = .ok (.aload_n 0, 1) := dk_42 (dk_at dksX5_findsPass_4 22 rfl rfl)
theorem dX5_findsPass_117 : decode cX5_findsPass 117 = .ok (.iload 4, 2) := dk_21 4 (dk_at dksX5_findsPass_5 0 rfl rfl)
theorem dX5_findsPass_119 : decode cX5_findsPass 119 = .ok (.putfield 117, 3) := dk_181 0 117 (dk_at dksX5_findsPass_5 2 rfl rfl)
theorem dX5_findsPass_122 : decode cX5_findsPass 122 = .ok (.aload_n 0, 1) := dk_42 (dk_at dksX5_findsPass_5 5 rfl rfl)
theorem dX5_findsPass_123 : decode cX5_findsPass 123 = .ok (.iload 6, 2) := dk_21 6 (dk_at dksX5_findsPass_5 6 rfl rfl)
theorem dX5_findsPass_125 : decode cX5_findsPass 125 = .ok (.putfield 120, 3) := dk_181 0 120 (dk_at dksX5_findsPass_5 8 rfl rfl)
theorem dX5_findsPass_128 : decode cX5_findsPass 128 = .ok (.iinc 5 1, 3) := dk_132 5 1 (dk_at dksX5_findsPass_5 11 rfl rfl)
theorem dX5_findsPass_131 : decode cX5_findsPass 131 = .ok (.goto (-90), 3) := dk_167 255 166 (dk_at dksX5_findsPass_5 14 rfl rfl)
theorem dX5_findsPass_134 : decode cX5_findsPass 134 = .ok (.iinc 4 1, 3) := dk_132 4 1 (dk_at dksX5_findsPass_5 17 rfl rfl)
theorem dX5_findsPass_137 : decode cX5_findsPass 137 = .ok (.goto (-108), 3) := dk_167 255 148 (dk_at dksX5_findsPass_5 20 rfl rfl)
theorem dX5_findsPass_140 : decode cX5_findsPass 140 = .ok (.return_, 1) := dk_177 (dk_at dksX5_findsPass_5 23 rfl rfl)
abbrev cX5_isFull : ByteArray := prog_13_method_25_code
def yX5_isFull : MethodName := ⟨RX5, "isFull", "(I)Z"⟩
def dkwX5_isFull_1 : List UInt8 := [172]
abbrev dktX5_isFull_1 : List UInt8 := dkwX5_isFull_1 ++ []
def dkwX5_isFull_0 : List UInt8 := [42, 180, 0, 7, 17, 0, 224, 27, 96, 47, 42, 27, 182, 0, 127, 148, 154, 0, 7, 4, 167, 0, 4, 3]
abbrev dktX5_isFull_0 : List UInt8 := dkwX5_isFull_0 ++ dktX5_isFull_1
theorem dksX5_isFull_0 : cX5_isFull.data.toList.drop 0 = dktX5_isFull_0 := by decide +kernel
theorem dksX5_isFull_1 : cX5_isFull.data.toList.drop 24 = dktX5_isFull_1 := dk_seg dksX5_isFull_0 24 rfl rfl
theorem dX5_isFull_0 : decode cX5_isFull 0 = .ok (.aload_n 0, 1) := dk_42 (dk_at dksX5_isFull_0 0 rfl rfl)
theorem dX5_isFull_1 : decode cX5_isFull 1 = .ok (.getfield 7, 3) := dk_180 0 7 (dk_at dksX5_isFull_0 1 rfl rfl)
theorem dX5_isFull_4 : decode cX5_isFull 4 = .ok (.sipush 224, 3) := dk_17 0 224 (dk_at dksX5_isFull_0 4 rfl rfl)
theorem dX5_isFull_7 : decode cX5_isFull 7 = .ok (.iload_n 1, 1) := dk_27 (dk_at dksX5_isFull_0 7 rfl rfl)
theorem dX5_isFull_8 : decode cX5_isFull 8 = .ok (.iadd, 1) := dk_96 (dk_at dksX5_isFull_0 8 rfl rfl)
theorem dX5_isFull_9 : decode cX5_isFull 9 = .ok (.laload, 1) := dk_47 (dk_at dksX5_isFull_0 9 rfl rfl)
theorem dX5_isFull_10 : decode cX5_isFull 10 = .ok (.aload_n 0, 1) := dk_42 (dk_at dksX5_isFull_0 10 rfl rfl)
theorem dX5_isFull_11 : decode cX5_isFull 11 = .ok (.iload_n 1, 1) := dk_27 (dk_at dksX5_isFull_0 11 rfl rfl)
theorem dX5_isFull_12 : decode cX5_isFull 12 = .ok (.invokevirtual 127, 3) := dk_182 0 127 (dk_at dksX5_isFull_0 12 rfl rfl)
theorem dX5_isFull_15 : decode cX5_isFull 15 = .ok (.lcmp, 1) := dk_148 (dk_at dksX5_isFull_0 15 rfl rfl)
theorem dX5_isFull_16 : decode cX5_isFull 16 = .ok (.ifCond .ne 7, 3) := dk_154 0 7 (dk_at dksX5_isFull_0 16 rfl rfl)
theorem dX5_isFull_19 : decode cX5_isFull 19 = .ok (.iconst 1, 1) := dk_4 (dk_at dksX5_isFull_0 19 rfl rfl)
theorem dX5_isFull_20 : decode cX5_isFull 20 = .ok (.goto 4, 3) := dk_167 0 4 (dk_at dksX5_isFull_0 20 rfl rfl)
theorem dX5_isFull_23 : decode cX5_isFull 23 = .ok (.iconst 0, 1) := dk_3 (dk_at dksX5_isFull_0 23 rfl rfl)
theorem dX5_isFull_24 : decode cX5_isFull 24 = .ok (.ireturn, 1) := dk_172 (dk_at dksX5_isFull_1 0 rfl rfl)
abbrev cX5_join : ByteArray := prog_13_method_29_code
def yX5_join : MethodName := ⟨RX5, "join", "(II)I"⟩
def dkwX5_join_6 : List UInt8 := [29, 172]
abbrev dktX5_join_6 : List UInt8 := dkwX5_join_6 ++ []
def dkwX5_join_5 : List UInt8 := [10, 80, 42, 180, 0, 7, 17, 1, 184, 27, 96, 9, 80, 42, 180, 0, 7, 17, 1, 184, 28, 96, 9, 80]
abbrev dktX5_join_5 : List UInt8 := dkwX5_join_5 ++ dktX5_join_6
def dkwX5_join_4 : List UInt8 := [27, 133, 80, 42, 180, 0, 7, 17, 1, 112, 29, 96, 28, 133, 80, 42, 180, 0, 7, 17, 1, 184, 29, 96]
abbrev dktX5_join_4 : List UInt8 := dkwX5_join_4 ++ dktX5_join_5
def dkwX5_join_3 : List UInt8 := [27, 96, 47, 42, 180, 0, 7, 17, 0, 224, 28, 96, 47, 97, 80, 42, 180, 0, 7, 17, 1, 40, 29, 96]
abbrev dktX5_join_3 : List UInt8 := dkwX5_join_3 ++ dktX5_join_4
def dkwX5_join_2 : List UInt8 := [17, 0, 152, 28, 96, 47, 129, 80, 42, 180, 0, 7, 17, 0, 224, 29, 96, 42, 180, 0, 7, 17, 0, 224]
abbrev dktX5_join_2 : List UInt8 := dkwX5_join_2 ++ dktX5_join_3
def dkwX5_join_1 : List UInt8 := [180, 0, 7, 17, 0, 152, 29, 96, 42, 180, 0, 7, 17, 0, 152, 27, 96, 47, 42, 180, 0, 7]
abbrev dktX5_join_1 : List UInt8 := dkwX5_join_1 ++ dktX5_join_2
def dkwX5_join_0 : List UInt8 := [3, 62, 42, 180, 0, 7, 17, 0, 152, 29, 96, 47, 9, 148, 153, 0, 9, 132, 3, 1, 167, 255, 238, 42]
abbrev dktX5_join_0 : List UInt8 := dkwX5_join_0 ++ dktX5_join_1
theorem dksX5_join_0 : cX5_join.data.toList.drop 0 = dktX5_join_0 := by decide +kernel
theorem dksX5_join_1 : cX5_join.data.toList.drop 24 = dktX5_join_1 := dk_seg dksX5_join_0 24 rfl rfl
theorem dksX5_join_2 : cX5_join.data.toList.drop 46 = dktX5_join_2 := dk_seg dksX5_join_1 22 rfl rfl
theorem dksX5_join_3 : cX5_join.data.toList.drop 70 = dktX5_join_3 := dk_seg dksX5_join_2 24 rfl rfl
theorem dksX5_join_4 : cX5_join.data.toList.drop 94 = dktX5_join_4 := dk_seg dksX5_join_3 24 rfl rfl
theorem dksX5_join_5 : cX5_join.data.toList.drop 118 = dktX5_join_5 := dk_seg dksX5_join_4 24 rfl rfl
theorem dksX5_join_6 : cX5_join.data.toList.drop 142 = dktX5_join_6 := dk_seg dksX5_join_5 24 rfl rfl
theorem dX5_join_0 : decode cX5_join 0 = .ok (.iconst 0, 1) := dk_3 (dk_at dksX5_join_0 0 rfl rfl)
theorem dX5_join_1 : decode cX5_join 1 = .ok (.istore_n 3, 1) := dk_62 (dk_at dksX5_join_0 1 rfl rfl)
theorem dX5_join_2 : decode cX5_join 2 = .ok (.aload_n 0, 1) := dk_42 (dk_at dksX5_join_0 2 rfl rfl)
theorem dX5_join_3 : decode cX5_join 3 = .ok (.getfield 7, 3) := dk_180 0 7 (dk_at dksX5_join_0 3 rfl rfl)
theorem dX5_join_6 : decode cX5_join 6 = .ok (.sipush 152, 3) := dk_17 0 152 (dk_at dksX5_join_0 6 rfl rfl)
theorem dX5_join_9 : decode cX5_join 9 = .ok (.iload_n 3, 1) := dk_29 (dk_at dksX5_join_0 9 rfl rfl)
theorem dX5_join_10 : decode cX5_join 10 = .ok (.iadd, 1) := dk_96 (dk_at dksX5_join_0 10 rfl rfl)
theorem dX5_join_11 : decode cX5_join 11 = .ok (.laload, 1) := dk_47 (dk_at dksX5_join_0 11 rfl rfl)
theorem dX5_join_12 : decode cX5_join 12 = .ok (.lconst 0, 1) := dk_9 (dk_at dksX5_join_0 12 rfl rfl)
theorem dX5_join_13 : decode cX5_join 13 = .ok (.lcmp, 1) := dk_148 (dk_at dksX5_join_0 13 rfl rfl)
theorem dX5_join_14 : decode cX5_join 14 = .ok (.ifCond .eq 9, 3) := dk_153 0 9 (dk_at dksX5_join_0 14 rfl rfl)
theorem dX5_join_17 : decode cX5_join 17 = .ok (.iinc 3 1, 3) := dk_132 3 1 (dk_at dksX5_join_0 17 rfl rfl)
theorem dX5_join_20 : decode cX5_join 20 = .ok (.goto (-18), 3) := dk_167 255 238 (dk_at dksX5_join_0 20 rfl rfl)
theorem dX5_join_23 : decode cX5_join 23 = .ok (.aload_n 0, 1) := dk_42 (dk_at dksX5_join_0 23 rfl rfl)
theorem dX5_join_24 : decode cX5_join 24 = .ok (.getfield 7, 3) := dk_180 0 7 (dk_at dksX5_join_1 0 rfl rfl)
theorem dX5_join_27 : decode cX5_join 27 = .ok (.sipush 152, 3) := dk_17 0 152 (dk_at dksX5_join_1 3 rfl rfl)
theorem dX5_join_30 : decode cX5_join 30 = .ok (.iload_n 3, 1) := dk_29 (dk_at dksX5_join_1 6 rfl rfl)
theorem dX5_join_31 : decode cX5_join 31 = .ok (.iadd, 1) := dk_96 (dk_at dksX5_join_1 7 rfl rfl)
theorem dX5_join_32 : decode cX5_join 32 = .ok (.aload_n 0, 1) := dk_42 (dk_at dksX5_join_1 8 rfl rfl)
theorem dX5_join_33 : decode cX5_join 33 = .ok (.getfield 7, 3) := dk_180 0 7 (dk_at dksX5_join_1 9 rfl rfl)
theorem dX5_join_36 : decode cX5_join 36 = .ok (.sipush 152, 3) := dk_17 0 152 (dk_at dksX5_join_1 12 rfl rfl)
theorem dX5_join_39 : decode cX5_join 39 = .ok (.iload_n 1, 1) := dk_27 (dk_at dksX5_join_1 15 rfl rfl)
theorem dX5_join_40 : decode cX5_join 40 = .ok (.iadd, 1) := dk_96 (dk_at dksX5_join_1 16 rfl rfl)
theorem dX5_join_41 : decode cX5_join 41 = .ok (.laload, 1) := dk_47 (dk_at dksX5_join_1 17 rfl rfl)
theorem dX5_join_42 : decode cX5_join 42 = .ok (.aload_n 0, 1) := dk_42 (dk_at dksX5_join_1 18 rfl rfl)
theorem dX5_join_43 : decode cX5_join 43 = .ok (.getfield 7, 3) := dk_180 0 7 (dk_at dksX5_join_1 19 rfl rfl)
theorem dX5_join_46 : decode cX5_join 46 = .ok (.sipush 152, 3) := dk_17 0 152 (dk_at dksX5_join_2 0 rfl rfl)
theorem dX5_join_49 : decode cX5_join 49 = .ok (.iload_n 2, 1) := dk_28 (dk_at dksX5_join_2 3 rfl rfl)
theorem dX5_join_50 : decode cX5_join 50 = .ok (.iadd, 1) := dk_96 (dk_at dksX5_join_2 4 rfl rfl)
theorem dX5_join_51 : decode cX5_join 51 = .ok (.laload, 1) := dk_47 (dk_at dksX5_join_2 5 rfl rfl)
theorem dX5_join_52 : decode cX5_join 52 = .ok (.lor, 1) := dk_129 (dk_at dksX5_join_2 6 rfl rfl)
theorem dX5_join_53 : decode cX5_join 53 = .ok (.lastore, 1) := dk_80 (dk_at dksX5_join_2 7 rfl rfl)
theorem dX5_join_54 : decode cX5_join 54 = .ok (.aload_n 0, 1) := dk_42 (dk_at dksX5_join_2 8 rfl rfl)
theorem dX5_join_55 : decode cX5_join 55 = .ok (.getfield 7, 3) := dk_180 0 7 (dk_at dksX5_join_2 9 rfl rfl)
theorem dX5_join_58 : decode cX5_join 58 = .ok (.sipush 224, 3) := dk_17 0 224 (dk_at dksX5_join_2 12 rfl rfl)
theorem dX5_join_61 : decode cX5_join 61 = .ok (.iload_n 3, 1) := dk_29 (dk_at dksX5_join_2 15 rfl rfl)
theorem dX5_join_62 : decode cX5_join 62 = .ok (.iadd, 1) := dk_96 (dk_at dksX5_join_2 16 rfl rfl)
theorem dX5_join_63 : decode cX5_join 63 = .ok (.aload_n 0, 1) := dk_42 (dk_at dksX5_join_2 17 rfl rfl)
theorem dX5_join_64 : decode cX5_join 64 = .ok (.getfield 7, 3) := dk_180 0 7 (dk_at dksX5_join_2 18 rfl rfl)
theorem dX5_join_67 : decode cX5_join 67 = .ok (.sipush 224, 3) := dk_17 0 224 (dk_at dksX5_join_2 21 rfl rfl)
theorem dX5_join_70 : decode cX5_join 70 = .ok (.iload_n 1, 1) := dk_27 (dk_at dksX5_join_3 0 rfl rfl)
theorem dX5_join_71 : decode cX5_join 71 = .ok (.iadd, 1) := dk_96 (dk_at dksX5_join_3 1 rfl rfl)
theorem dX5_join_72 : decode cX5_join 72 = .ok (.laload, 1) := dk_47 (dk_at dksX5_join_3 2 rfl rfl)
theorem dX5_join_73 : decode cX5_join 73 = .ok (.aload_n 0, 1) := dk_42 (dk_at dksX5_join_3 3 rfl rfl)
theorem dX5_join_74 : decode cX5_join 74 = .ok (.getfield 7, 3) := dk_180 0 7 (dk_at dksX5_join_3 4 rfl rfl)
theorem dX5_join_77 : decode cX5_join 77 = .ok (.sipush 224, 3) := dk_17 0 224 (dk_at dksX5_join_3 7 rfl rfl)
theorem dX5_join_80 : decode cX5_join 80 = .ok (.iload_n 2, 1) := dk_28 (dk_at dksX5_join_3 10 rfl rfl)
theorem dX5_join_81 : decode cX5_join 81 = .ok (.iadd, 1) := dk_96 (dk_at dksX5_join_3 11 rfl rfl)
theorem dX5_join_82 : decode cX5_join 82 = .ok (.laload, 1) := dk_47 (dk_at dksX5_join_3 12 rfl rfl)
theorem dX5_join_83 : decode cX5_join 83 = .ok (.ladd, 1) := dk_97 (dk_at dksX5_join_3 13 rfl rfl)
theorem dX5_join_84 : decode cX5_join 84 = .ok (.lastore, 1) := dk_80 (dk_at dksX5_join_3 14 rfl rfl)
theorem dX5_join_85 : decode cX5_join 85 = .ok (.aload_n 0, 1) := dk_42 (dk_at dksX5_join_3 15 rfl rfl)
theorem dX5_join_86 : decode cX5_join 86 = .ok (.getfield 7, 3) := dk_180 0 7 (dk_at dksX5_join_3 16 rfl rfl)
theorem dX5_join_89 : decode cX5_join 89 = .ok (.sipush 296, 3) := dk_17 1 40 (dk_at dksX5_join_3 19 rfl rfl)
theorem dX5_join_92 : decode cX5_join 92 = .ok (.iload_n 3, 1) := dk_29 (dk_at dksX5_join_3 22 rfl rfl)
theorem dX5_join_93 : decode cX5_join 93 = .ok (.iadd, 1) := dk_96 (dk_at dksX5_join_3 23 rfl rfl)
theorem dX5_join_94 : decode cX5_join 94 = .ok (.iload_n 1, 1) := dk_27 (dk_at dksX5_join_4 0 rfl rfl)
theorem dX5_join_95 : decode cX5_join 95 = .ok (.i2l, 1) := dk_133 (dk_at dksX5_join_4 1 rfl rfl)
theorem dX5_join_96 : decode cX5_join 96 = .ok (.lastore, 1) := dk_80 (dk_at dksX5_join_4 2 rfl rfl)
theorem dX5_join_97 : decode cX5_join 97 = .ok (.aload_n 0, 1) := dk_42 (dk_at dksX5_join_4 3 rfl rfl)
theorem dX5_join_98 : decode cX5_join 98 = .ok (.getfield 7, 3) := dk_180 0 7 (dk_at dksX5_join_4 4 rfl rfl)
theorem dX5_join_101 : decode cX5_join 101 = .ok (.sipush 368, 3) := dk_17 1 112 (dk_at dksX5_join_4 7 rfl rfl)
theorem dX5_join_104 : decode cX5_join 104 = .ok (.iload_n 3, 1) := dk_29 (dk_at dksX5_join_4 10 rfl rfl)
theorem dX5_join_105 : decode cX5_join 105 = .ok (.iadd, 1) := dk_96 (dk_at dksX5_join_4 11 rfl rfl)
theorem dX5_join_106 : decode cX5_join 106 = .ok (.iload_n 2, 1) := dk_28 (dk_at dksX5_join_4 12 rfl rfl)
theorem dX5_join_107 : decode cX5_join 107 = .ok (.i2l, 1) := dk_133 (dk_at dksX5_join_4 13 rfl rfl)
theorem dX5_join_108 : decode cX5_join 108 = .ok (.lastore, 1) := dk_80 (dk_at dksX5_join_4 14 rfl rfl)
theorem dX5_join_109 : decode cX5_join 109 = .ok (.aload_n 0, 1) := dk_42 (dk_at dksX5_join_4 15 rfl rfl)
theorem dX5_join_110 : decode cX5_join 110 = .ok (.getfield 7, 3) := dk_180 0 7 (dk_at dksX5_join_4 16 rfl rfl)
theorem dX5_join_113 : decode cX5_join 113 = .ok (.sipush 440, 3) := dk_17 1 184 (dk_at dksX5_join_4 19 rfl rfl)
theorem dX5_join_116 : decode cX5_join 116 = .ok (.iload_n 3, 1) := dk_29 (dk_at dksX5_join_4 22 rfl rfl)
theorem dX5_join_117 : decode cX5_join 117 = .ok (.iadd, 1) := dk_96 (dk_at dksX5_join_4 23 rfl rfl)
theorem dX5_join_118 : decode cX5_join 118 = .ok (.lconst 1, 1) := dk_10 (dk_at dksX5_join_5 0 rfl rfl)
theorem dX5_join_119 : decode cX5_join 119 = .ok (.lastore, 1) := dk_80 (dk_at dksX5_join_5 1 rfl rfl)
theorem dX5_join_120 : decode cX5_join 120 = .ok (.aload_n 0, 1) := dk_42 (dk_at dksX5_join_5 2 rfl rfl)
theorem dX5_join_121 : decode cX5_join 121 = .ok (.getfield 7, 3) := dk_180 0 7 (dk_at dksX5_join_5 3 rfl rfl)
theorem dX5_join_124 : decode cX5_join 124 = .ok (.sipush 440, 3) := dk_17 1 184 (dk_at dksX5_join_5 6 rfl rfl)
theorem dX5_join_127 : decode cX5_join 127 = .ok (.iload_n 1, 1) := dk_27 (dk_at dksX5_join_5 9 rfl rfl)
theorem dX5_join_128 : decode cX5_join 128 = .ok (.iadd, 1) := dk_96 (dk_at dksX5_join_5 10 rfl rfl)
theorem dX5_join_129 : decode cX5_join 129 = .ok (.lconst 0, 1) := dk_9 (dk_at dksX5_join_5 11 rfl rfl)
theorem dX5_join_130 : decode cX5_join 130 = .ok (.lastore, 1) := dk_80 (dk_at dksX5_join_5 12 rfl rfl)
theorem dX5_join_131 : decode cX5_join 131 = .ok (.aload_n 0, 1) := dk_42 (dk_at dksX5_join_5 13 rfl rfl)
theorem dX5_join_132 : decode cX5_join 132 = .ok (.getfield 7, 3) := dk_180 0 7 (dk_at dksX5_join_5 14 rfl rfl)
theorem dX5_join_135 : decode cX5_join 135 = .ok (.sipush 440, 3) := dk_17 1 184 (dk_at dksX5_join_5 17 rfl rfl)
theorem dX5_join_138 : decode cX5_join 138 = .ok (.iload_n 2, 1) := dk_28 (dk_at dksX5_join_5 20 rfl rfl)
theorem dX5_join_139 : decode cX5_join 139 = .ok (.iadd, 1) := dk_96 (dk_at dksX5_join_5 21 rfl rfl)
theorem dX5_join_140 : decode cX5_join 140 = .ok (.lconst 0, 1) := dk_9 (dk_at dksX5_join_5 22 rfl rfl)
theorem dX5_join_141 : decode cX5_join 141 = .ok (.lastore, 1) := dk_80 (dk_at dksX5_join_5 23 rfl rfl)
theorem dX5_join_142 : decode cX5_join 142 = .ok (.iload_n 3, 1) := dk_29 (dk_at dksX5_join_6 0 rfl rfl)
theorem dX5_join_143 : decode cX5_join 143 = .ok (.ireturn, 1) := dk_172 (dk_at dksX5_join_6 1 rfl rfl)
