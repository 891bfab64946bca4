set_option maxRecDepth 100000
abbrev cX5_bits : ByteArray := prog_13_method_42_code
def yX5_bits : MethodName := ⟨RX5, "bits", "(J)I"⟩
def dkwX5_bits_0 : List UInt8 := [3, 61, 30, 66, 33, 9, 148, 153, 0, 15, 132, 2, 1, 33, 33, 10, 101, 127, 66, 167, 255, 241, 28, 172]
abbrev dktX5_bits_0 : List UInt8 := dkwX5_bits_0 ++ []
theorem dksX5_bits_0 : cX5_bits.data.toList.drop 0 = dktX5_bits_0 := by decide +kernel
theorem dX5_bits_0 : decode cX5_bits 0 = .ok (.iconst 0, 1) := dk_3 (dk_at dksX5_bits_0 0 rfl rfl)
theorem dX5_bits_1 : decode cX5_bits 1 = .ok (.istore_n 2, 1) := dk_61 (dk_at dksX5_bits_0 1 rfl rfl)
theorem dX5_bits_2 : decode cX5_bits 2 = .ok (.lload_n 0, 1) := dk_30 (dk_at dksX5_bits_0 2 rfl rfl)
theorem dX5_bits_3 : decode cX5_bits 3 = .ok (.lstore_n 3, 1) := dk_66 (dk_at dksX5_bits_0 3 rfl rfl)
theorem dX5_bits_4 : decode cX5_bits 4 = .ok (.lload_n 3, 1) := dk_33 (dk_at dksX5_bits_0 4 rfl rfl)
theorem dX5_bits_5 : decode cX5_bits 5 = .ok (.lconst 0, 1) := dk_9 (dk_at dksX5_bits_0 5 rfl rfl)
theorem dX5_bits_6 : decode cX5_bits 6 = .ok (.lcmp, 1) := dk_148 (dk_at dksX5_bits_0 6 rfl rfl)
theorem dX5_bits_7 : decode cX5_bits 7 = .ok (.ifCond .eq 15, 3) := dk_153 0 15 (dk_at dksX5_bits_0 7 rfl rfl)
theorem dX5_bits_10 : decode cX5_bits 10 = .ok (.iinc 2 1, 3) := dk_132 2 1 (dk_at dksX5_bits_0 10 rfl rfl)
theorem dX5_bits_13 : decode cX5_bits 13 = .ok (.lload_n 3, 1) := dk_33 (dk_at dksX5_bits_0 13 rfl rfl)
theorem dX5_bits_14 : decode cX5_bits 14 = .ok (.lload_n 3, 1) := dk_33 (dk_at dksX5_bits_0 14 rfl rfl)
theorem dX5_bits_15 : decode cX5_bits 15 = .ok (.lconst 1, 1) := dk_10 (dk_at dksX5_bits_0 15 rfl rfl)
theorem dX5_bits_16 : decode cX5_bits 16 = .ok (.lsub, 1) := dk_101 (dk_at dksX5_bits_0 16 rfl rfl)
theorem dX5_bits_17 : decode cX5_bits 17 = .ok (.land, 1) := dk_127 (dk_at dksX5_bits_0 17 rfl rfl)
theorem dX5_bits_18 : decode cX5_bits 18 = .ok (.lstore_n 3, 1) := dk_66 (dk_at dksX5_bits_0 18 rfl rfl)
theorem dX5_bits_19 : decode cX5_bits 19 = .ok (.goto (-15), 3) := dk_167 255 241 (dk_at dksX5_bits_0 19 rfl rfl)
theorem dX5_bits_22 : decode cX5_bits 22 = .ok (.iload_n 2, 1) := dk_28 (dk_at dksX5_bits_0 22 rfl rfl)
theorem dX5_bits_23 : decode cX5_bits 23 = .ok (.ireturn, 1) := dk_172 (dk_at dksX5_bits_0 23 rfl rfl)
abbrev cX5_basinsOf : ByteArray := prog_13_method_64_code
def yX5_basinsOf : MethodName := ⟨RX5, "basinsOf", "(J)I"⟩
def dkwX5_basinsOf_5 : List UInt8 := [153, 0, 7, 4, 167, 0, 4, 3, 96, 62, 132, 4, 1, 167, 255, 131, 29, 172]
abbrev dktX5_basinsOf_5 : List UInt8 := dkwX5_basinsOf_5 ++ []
def dkwX5_basinsOf_4 : List UInt8 := [96, 47, 148, 153, 0, 7, 4, 167, 0, 4, 3, 54, 5, 132, 6, 1, 167, 255, 194, 29, 21, 5]
abbrev dktX5_basinsOf_4 : List UInt8 := dkwX5_basinsOf_4 ++ dktX5_basinsOf_5
def dkwX5_basinsOf_3 : List UInt8 := [184, 0, 91, 153, 0, 27, 42, 180, 0, 7, 16, 116, 21, 6, 96, 47, 42, 180, 0, 7, 16, 116, 21, 4]
abbrev dktX5_basinsOf_3 : List UInt8 := dkwX5_basinsOf_3 ++ dktX5_basinsOf_4
def dkwX5_basinsOf_2 : List UInt8 := [54, 6, 21, 6, 21, 4, 162, 0, 61, 21, 5, 153, 0, 47, 42, 180, 0, 7, 17, 2, 0, 47, 21, 6]
abbrev dktX5_basinsOf_2 : List UInt8 := dkwX5_basinsOf_2 ++ dktX5_basinsOf_3
def dkwX5_basinsOf_1 : List UInt8 := [180, 0, 7, 17, 2, 0, 47, 21, 4, 184, 0, 91, 153, 0, 7, 4, 167, 0, 4, 3, 54, 5, 3]
abbrev dktX5_basinsOf_1 : List UInt8 := dkwX5_basinsOf_1 ++ dktX5_basinsOf_2
def dkwX5_basinsOf_0 : List UInt8 := [3, 62, 3, 54, 4, 21, 4, 42, 182, 0, 61, 162, 0, 122, 31, 21, 4, 184, 0, 91, 153, 0, 23, 42]
abbrev dktX5_basinsOf_0 : List UInt8 := dkwX5_basinsOf_0 ++ dktX5_basinsOf_1
theorem dksX5_basinsOf_0 : cX5_basinsOf.data.toList.drop 0 = dktX5_basinsOf_0 := by decide +kernel
theorem dksX5_basinsOf_1 : cX5_basinsOf.data.toList.drop 24 = dktX5_basinsOf_1 := dk_seg dksX5_basinsOf_0 24 rfl rfl
theorem dksX5_basinsOf_2 : cX5_basinsOf.data.toList.drop 47 = dktX5_basinsOf_2 := dk_seg dksX5_basinsOf_1 23 rfl rfl
theorem dksX5_basinsOf_3 : cX5_basinsOf.data.toList.drop 71 = dktX5_basinsOf_3 := dk_seg dksX5_basinsOf_2 24 rfl rfl
theorem dksX5_basinsOf_4 : cX5_basinsOf.data.toList.drop 95 = dktX5_basinsOf_4 := dk_seg dksX5_basinsOf_3 24 rfl rfl
theorem dksX5_basinsOf_5 : cX5_basinsOf.data.toList.drop 117 = dktX5_basinsOf_5 := dk_seg dksX5_basinsOf_4 22 rfl rfl
theorem dX5_basinsOf_0 : decode cX5_basinsOf 0 = .ok (.iconst 0, 1) := dk_3 (dk_at dksX5_basinsOf_0 0 rfl rfl)
theorem dX5_basinsOf_1 : decode cX5_basinsOf 1 = .ok (.istore_n 3, 1) := dk_62 (dk_at dksX5_basinsOf_0 1 rfl rfl)
theorem dX5_basinsOf_2 : decode cX5_basinsOf 2 = .ok (.iconst 0, 1) := dk_3 (dk_at dksX5_basinsOf_0 2 rfl rfl)
theorem dX5_basinsOf_3 : decode cX5_basinsOf 3 = .ok (.istore 4, 2) := dk_54 4 (dk_at dksX5_basinsOf_0 3 rfl rfl)
theorem dX5_basinsOf_5 : decode cX5_basinsOf 5 = .ok (.iload 4, 2) := dk_21 4 (dk_at dksX5_basinsOf_0 5 rfl rfl)
theorem dX5_basinsOf_7 : decode cX5_basinsOf 7 = .ok (.aload_n 0, 1) := dk_42 (dk_at dksX5_basinsOf_0 7 rfl rfl)
theorem dX5_basinsOf_8 : decode cX5_basinsOf 8 = .ok (.invokevirtual 61, 3) := dk_182 0 61 (dk_at dksX5_basinsOf_0 8 rfl rfl)
theorem dX5_basinsOf_11 : decode cX5_basinsOf 11 = .ok (.if_icmp .ge 122, 3) := dk_162 0 122 (dk_at dksX5_basinsOf_0 11 rfl rfl)
theorem dX5_basinsOf_14 : decode cX5_basinsOf 14 = .ok (.lload_n 1, 1) := dk_31 (dk_at dksX5_basinsOf_0 14 rfl rfl)
theorem dX5_basinsOf_15 : decode cX5_basinsOf 15 = .ok (.iload 4, 2) := dk_21 4 (dk_at dksX5_basinsOf_0 15 rfl rfl)
theorem dX5_basinsOf_17 : decode cX5_basinsOf 17 = .ok (.invokestatic 91, 3) := dk_184 0 91 (dk_at dksX5_basinsOf_0 17 rfl rfl)
theorem dX5_basinsOf_20 : decode cX5_basinsOf 20 = .ok (.ifCond .eq 23, 3) := dk_153 0 23 (dk_at dksX5_basinsOf_0 20 rfl rfl)
theorem dX5_basinsOf_23 : decode cX5_basinsOf 23 = .ok (.aload_n 0, 1) := dk_42 (dk_at dksX5_basinsOf_0 23 rfl rfl)
theorem dX5_basinsOf_24 : decode cX5_basinsOf 24 = .ok (.getfield 7, 3) := dk_180 0 7 (dk_at dksX5_basinsOf_1 0 rfl rfl)
theorem dX5_basinsOf_27 : decode cX5_basinsOf 27 = .ok (.sipush 512, 3) := dk_17 2 0 (dk_at dksX5_basinsOf_1 3 rfl rfl)
theorem dX5_basinsOf_30 : decode cX5_basinsOf 30 = .ok (.laload, 1) := dk_47 (dk_at dksX5_basinsOf_1 6 rfl rfl)
theorem dX5_basinsOf_31 : decode cX5_basinsOf 31 = .ok (.iload 4, 2) := dk_21 4 (dk_at dksX5_basinsOf_1 7 rfl rfl)
theorem dX5_basinsOf_33 : decode cX5_basinsOf 33 = .ok (.invokestatic 91, 3) := dk_184 0 91 (dk_at dksX5_basinsOf_1 9 rfl rfl)
theorem dX5_basinsOf_36 : decode cX5_basinsOf 36 = .ok (.ifCond .eq 7, 3) := dk_153 0 7 (dk_at dksX5_basinsOf_1 12 rfl rfl)
theorem dX5_basinsOf_39 : decode cX5_basinsOf 39 = .ok (.iconst 1, 1) := dk_4 (dk_at dksX5_basinsOf_1 15 rfl rfl)
theorem dX5_basinsOf_40 : decode cX5_basinsOf 40 = .ok (.goto 4, 3) := dk_167 0 4 (dk_at dksX5_basinsOf_1 16 rfl rfl)
theorem dX5_basinsOf_43 : decode cX5_basinsOf 43 = .ok (.iconst 0, 1) := dk_3 (dk_at dksX5_basinsOf_1 19 rfl rfl)
theorem dX5_basinsOf_44 : decode cX5_basinsOf 44 = .ok (.istore 5, 2) := dk_54 5 (dk_at dksX5_basinsOf_1 20 rfl rfl)
theorem dX5_basinsOf_46 : decode cX5_basinsOf 46 = .ok (.iconst 0, 1) := dk_3 (dk_at dksX5_basinsOf_1 22 rfl rfl)
theorem dX5_basinsOf_47 : decode cX5_basinsOf 47 = .ok (.istore 6, 2) := dk_54 6 (dk_at dksX5_basinsOf_2 0 rfl rfl)
theorem dX5_basinsOf_49 : decode cX5_basinsOf 49 = .ok (.iload 6, 2) := dk_21 6 (dk_at dksX5_basinsOf_2 2 rfl rfl)
theorem dX5_basinsOf_51 : decode cX5_basinsOf 51 = .ok (.iload 4, 2) := dk_21 4 (dk_at dksX5_basinsOf_2 4 rfl rfl)
theorem dX5_basinsOf_53 : decode cX5_basinsOf 53 = .ok (.if_icmp .ge 61, 3) := dk_162 0 61 (dk_at dksX5_basinsOf_2 6 rfl rfl)
theorem dX5_basinsOf_56 : decode cX5_basinsOf 56 = .ok (.iload 5, 2) := dk_21 5 (dk_at dksX5_basinsOf_2 9 rfl rfl)
theorem dX5_basinsOf_58 : decode cX5_basinsOf 58 = .ok (.ifCond .eq 47, 3) := dk_153 0 47 (dk_at dksX5_basinsOf_2 11 rfl rfl)
theorem dX5_basinsOf_61 : decode cX5_basinsOf 61 = .ok (.aload_n 0, 1) := dk_42 (dk_at dksX5_basinsOf_2 14 rfl rfl)
theorem dX5_basinsOf_62 : decode cX5_basinsOf 62 = .ok (.getfield 7, 3) := dk_180 0 7 (dk_at dksX5_basinsOf_2 15 rfl rfl)
theorem dX5_basinsOf_65 : decode cX5_basinsOf 65 = .ok (.sipush 512, 3) := dk_17 2 0 (dk_at dksX5_basinsOf_2 18 rfl rfl)
theorem dX5_basinsOf_68 : decode cX5_basinsOf 68 = .ok (.laload, 1) := dk_47 (dk_at dksX5_basinsOf_2 21 rfl rfl)
theorem dX5_basinsOf_69 : decode cX5_basinsOf 69 = .ok (.iload 6, 2) := dk_21 6 (dk_at dksX5_basinsOf_2 22 rfl rfl)
theorem dX5_basinsOf_71 : decode cX5_basinsOf 71 = .ok (.invokestatic 91, 3) := dk_184 0 91 (dk_at dksX5_basinsOf_3 0 rfl rfl)
theorem dX5_basinsOf_74 : decode cX5_basinsOf 74 = .ok (.ifCond .eq 27, 3) := dk_153 0 27 (dk_at dksX5_basinsOf_3 3 rfl rfl)
theorem dX5_basinsOf_77 : decode cX5_basinsOf 77 = .ok (.aload_n 0, 1) := dk_42 (dk_at dksX5_basinsOf_3 6 rfl rfl)
theorem dX5_basinsOf_78 : decode cX5_basinsOf 78 = .ok (.getfield 7, 3) := dk_180 0 7 (dk_at dksX5_basinsOf_3 7 rfl rfl)
theorem dX5_basinsOf_81 : decode cX5_basinsOf 81 = .ok (.bipush 116, 2) := dk_16 116 (dk_at dksX5_basinsOf_3 10 rfl rfl)
theorem dX5_basinsOf_83 : decode cX5_basinsOf 83 = .ok (.iload 6, 2) := dk_21 6 (dk_at dksX5_basinsOf_3 12 rfl rfl)
theorem dX5_basinsOf_85 : decode cX5_basinsOf 85 = .ok (.iadd, 1) := dk_96 (dk_at dksX5_basinsOf_3 14 rfl rfl)
theorem dX5_basinsOf_86 : decode cX5_basinsOf 86 = .ok (.laload, 1) := dk_47 (dk_at dksX5_basinsOf_3 15 rfl rfl)
theorem dX5_basinsOf_87 : decode cX5_basinsOf 87 = .ok (.aload_n 0, 1) := dk_42 (dk_at dksX5_basinsOf_3 16 rfl rfl)
theorem dX5_basinsOf_88 : decode cX5_basinsOf 88 = .ok (.getfield 7, 3) := dk_180 0 7 (dk_at dksX5_basinsOf_3 17 rfl rfl)
theorem dX5_basinsOf_91 : decode cX5_basinsOf 91 = .ok (.bipush 116, 2) := dk_16 116 (dk_at dksX5_basinsOf_3 20 rfl rfl)
theorem dX5_basinsOf_93 : decode cX5_basinsOf 93 = .ok (.iload 4, 2) := dk_21 4 (dk_at dksX5_basinsOf_3 22 rfl rfl)
theorem dX5_basinsOf_95 : decode cX5_basinsOf 95 = .ok (.iadd, 1) := dk_96 (dk_at dksX5_basinsOf_4 0 rfl rfl)
theorem dX5_basinsOf_96 : decode cX5_basinsOf 96 = .ok (.laload, 1) := dk_47 (dk_at dksX5_basinsOf_4 1 rfl rfl)
theorem dX5_basinsOf_97 : decode cX5_basinsOf 97 = .ok (.lcmp, 1) := dk_148 (dk_at dksX5_basinsOf_4 2 rfl rfl)
theorem dX5_basinsOf_98 : decode cX5_basinsOf 98 = .ok (.ifCond .eq 7, 3) := dk_153 0 7 (dk_at dksX5_basinsOf_4 3 rfl rfl)
theorem dX5_basinsOf_101 : decode cX5_basinsOf 101 = .ok (.iconst 1, 1) := dk_4 (dk_at dksX5_basinsOf_4 6 rfl rfl)
theorem dX5_basinsOf_102 : decode cX5_basinsOf 102 = .ok (.goto 4, 3) := dk_167 0 4 (dk_at dksX5_basinsOf_4 7 rfl rfl)
theorem dX5_basinsOf_105 : decode cX5_basinsOf 105 = .ok (.iconst 0, 1) := dk_3 (dk_at dksX5_basinsOf_4 10 rfl rfl)
theorem dX5_basinsOf_106 : decode cX5_basinsOf 106 = .ok (.istore 5, 2) := dk_54 5 (dk_at dksX5_basinsOf_4 11 rfl rfl)
theorem dX5_basinsOf_108 : decode cX5_basinsOf 108 = .ok (.iinc 6 1, 3) := dk_132 6 1 (dk_at dksX5_basinsOf_4 13 rfl rfl)
theorem dX5_basinsOf_111 : decode cX5_basinsOf 111 = .ok (.goto (-62), 3) := dk_167 255 194 (dk_at dksX5_basinsOf_4 16 rfl rfl)
theorem dX5_basinsOf_114 : decode cX5_basinsOf 114 = .ok (.iload_n 3, 1) := dk_29 (dk_at dksX5_basinsOf_4 19 rfl rfl)
theorem dX5_basinsOf_115 : decode cX5_basinsOf 115 = .ok (.iload 5, 2) := dk_21 5 (dk_at dksX5_basinsOf_4 20 rfl rfl)
theorem dX5_basinsOf_117 : decode cX5_basinsOf 117 = .ok (.ifCond .eq 7, 3) := dk_153 0 7 (dk_at dksX5_basinsOf_5 0 rfl rfl)
theorem dX5_basinsOf_120 : decode cX5_basinsOf 120 = .ok (.iconst 1, 1) := dk_4 (dk_at dksX5_basinsOf_5 3 rfl rfl)
theorem dX5_basinsOf_121 : decode cX5_basinsOf 121 = .ok (.goto 4, 3) := dk_167 0 4 (dk_at dksX5_basinsOf_5 4 rfl rfl)
theorem dX5_basinsOf_124 : decode cX5_basinsOf 124 = .ok (.iconst 0, 1) := dk_3 (dk_at dksX5_basinsOf_5 7 rfl rfl)
theorem dX5_basinsOf_125 : decode cX5_basinsOf 125 = .ok (.iadd, 1) := dk_96 (dk_at dksX5_basinsOf_5 8 rfl rfl)
theorem dX5_basinsOf_126 : decode cX5_basinsOf 126 = .ok (.istore_n 3, 1) := dk_62 (dk_at dksX5_basinsOf_5 9 rfl rfl)
theorem dX5_basinsOf_127 : decode cX5_basinsOf 127 = .ok (.iinc 4 1, 3) := dk_132 4 1 (dk_at dksX5_basinsOf_5 10 rfl rfl)
theorem dX5_basinsOf_130 : decode cX5_basinsOf 130 = .ok (.goto (-125), 3) := dk_167 255 131 (dk_at dksX5_basinsOf_5 13 rfl rfl)
theorem dX5_basinsOf_133 : decode cX5_basinsOf 133 = .ok (.iload_n 3, 1) := dk_29 (dk_at dksX5_basinsOf_5 16 rfl rfl)
theorem dX5_basinsOf_134 : decode cX5_basinsOf 134 = .ok (.ireturn, 1) := dk_172 (dk_at dksX5_basinsOf_5 17 rfl rfl)
abbrev cX5_lakeCells : ByteArray := prog_13_method_67_code
def yX5_lakeCells : MethodName := ⟨RX5, "lakeCells", "(I)J"⟩
def dkwX5_lakeCells_1 : List UInt8 := [180, 0, 29, 27, 46, 96, 47, 167, 0, 4, 9, 173]
abbrev dktX5_lakeCells_1 : List UInt8 := dkwX5_lakeCells_1 ++ []
def dkwX5_lakeCells_0 : List UInt8 := [42, 42, 27, 182, 0, 246, 4, 4, 182, 0, 183, 153, 0, 21, 42, 180, 0, 7, 17, 0, 152, 42]
abbrev dktX5_lakeCells_0 : List UInt8 := dkwX5_lakeCells_0 ++ dktX5_lakeCells_1
theorem dksX5_lakeCells_0 : cX5_lakeCells.data.toList.drop 0 = dktX5_lakeCells_0 := by decide +kernel
theorem dksX5_lakeCells_1 : cX5_lakeCells.data.toList.drop 22 = dktX5_lakeCells_1 := dk_seg dksX5_lakeCells_0 22 rfl rfl
theorem dX5_lakeCells_0 : decode cX5_lakeCells 0 = .ok (.aload_n 0, 1) := dk_42 (dk_at dksX5_lakeCells_0 0 rfl rfl)
theorem dX5_lakeCells_1 : decode cX5_lakeCells 1 = .ok (.aload_n 0, 1) := dk_42 (dk_at dksX5_lakeCells_0 1 rfl rfl)
theorem dX5_lakeCells_2 : decode cX5_lakeCells 2 = .ok (.iload_n 1, 1) := dk_27 (dk_at dksX5_lakeCells_0 2 rfl rfl)
theorem dX5_lakeCells_3 : decode cX5_lakeCells 3 = .ok (.invokevirtual 246, 3) := dk_182 0 246 (dk_at dksX5_lakeCells_0 3 rfl rfl)
theorem dX5_lakeCells_6 : decode cX5_lakeCells 6 = .ok (.iconst 1, 1) := dk_4 (dk_at dksX5_lakeCells_0 6 rfl rfl)
theorem dX5_lakeCells_7 : decode cX5_lakeCells 7 = .ok (.iconst 1, 1) := dk_4 (dk_at dksX5_lakeCells_0 7 rfl rfl)
theorem dX5_lakeCells_8 : decode cX5_lakeCells 8 = .ok (.invokevirtual 183, 3) := dk_182 0 183 (dk_at dksX5_lakeCells_0 8 rfl rfl)
theorem dX5_lakeCells_11 : decode cX5_lakeCells 11 = .ok (.ifCond .eq 21, 3) := dk_153 0 21 (dk_at dksX5_lakeCells_0 11 rfl rfl)
theorem dX5_lakeCells_14 : decode cX5_lakeCells 14 = .ok (.aload_n 0, 1) := dk_42 (dk_at dksX5_lakeCells_0 14 rfl rfl)
theorem dX5_lakeCells_15 : decode cX5_lakeCells 15 = .ok (.getfield 7, 3) := dk_180 0 7 (dk_at dksX5_lakeCells_0 15 rfl rfl)
theorem dX5_lakeCells_18 : decode cX5_lakeCells 18 = .ok (.sipush 152, 3) := dk_17 0 152 (dk_at dksX5_lakeCells_0 18 rfl rfl)
theorem dX5_lakeCells_21 : decode cX5_lakeCells 21 = .ok (.aload_n 0, 1) := dk_42 (dk_at dksX5_lakeCells_0 21 rfl rfl)
theorem dX5_lakeCells_22 : decode cX5_lakeCells 22 = .ok (.getfield 29, 3) := dk_180 0 29 (dk_at dksX5_lakeCells_1 0 rfl rfl)
theorem dX5_lakeCells_25 : decode cX5_lakeCells 25 = .ok (.iload_n 1, 1) := dk_27 (dk_at dksX5_lakeCells_1 3 rfl rfl)
theorem dX5_lakeCells_26 : decode cX5_lakeCells 26 = .ok (.iaload, 1) := dk_46 (dk_at dksX5_lakeCells_1 4 rfl rfl)
theorem dX5_lakeCells_27 : decode cX5_lakeCells 27 = .ok (.iadd, 1) := dk_96 (dk_at dksX5_lakeCells_1 5 rfl rfl)
theorem dX5_lakeCells_28 : decode cX5_lakeCells 28 = .ok (.laload, 1) := dk_47 (dk_at dksX5_lakeCells_1 6 rfl rfl)
theorem dX5_lakeCells_29 : decode cX5_lakeCells 29 = .ok (.goto 4, 3) := dk_167 0 4 (dk_at dksX5_lakeCells_1 7 rfl rfl)
theorem dX5_lakeCells_32 : decode cX5_lakeCells 32 = .ok (.lconst 0, 1) := dk_9 (dk_at dksX5_lakeCells_1 10 rfl rfl)
theorem dX5_lakeCells_33 : decode cX5_lakeCells 33 = .ok (.lreturn, 1) := dk_173 (dk_at dksX5_lakeCells_1 11 rfl rfl)
abbrev cX5_level : ByteArray := prog_13_method_69_code
def yX5_level : MethodName := ⟨RX5, "level", "(II)I"⟩
def dkwX5_level_1 : List UInt8 := [182, 1, 13, 167, 0, 4, 3, 172]
abbrev dktX5_level_1 : List UInt8 := dkwX5_level_1 ++ []
def dkwX5_level_0 : List UInt8 := [42, 42, 27, 182, 0, 246, 28, 133, 9, 10, 184, 0, 65, 4, 182, 0, 183, 153, 0, 12, 42, 27, 28]
abbrev dktX5_level_0 : List UInt8 := dkwX5_level_0 ++ dktX5_level_1
theorem dksX5_level_0 : cX5_level.data.toList.drop 0 = dktX5_level_0 := by decide +kernel
theorem dksX5_level_1 : cX5_level.data.toList.drop 23 = dktX5_level_1 := dk_seg dksX5_level_0 23 rfl rfl
theorem dX5_level_0 : decode cX5_level 0 = .ok (.aload_n 0, 1) := dk_42 (dk_at dksX5_level_0 0 rfl rfl)
theorem dX5_level_1 : decode cX5_level 1 = .ok (.aload_n 0, 1) := dk_42 (dk_at dksX5_level_0 1 rfl rfl)
theorem dX5_level_2 : decode cX5_level 2 = .ok (.iload_n 1, 1) := dk_27 (dk_at dksX5_level_0 2 rfl rfl)
theorem dX5_level_3 : decode cX5_level 3 = .ok (.invokevirtual 246, 3) := dk_182 0 246 (dk_at dksX5_level_0 3 rfl rfl)
theorem dX5_level_6 : decode cX5_level 6 = .ok (.iload_n 2, 1) := dk_28 (dk_at dksX5_level_0 6 rfl rfl)
theorem dX5_level_7 : decode cX5_level 7 = .ok (.i2l, 1) := dk_133 (dk_at dksX5_level_0 7 rfl rfl)
theorem dX5_level_8 : decode cX5_level 8 = .ok (.lconst 0, 1) := dk_9 (dk_at dksX5_level_0 8 rfl rfl)
theorem dX5_level_9 : decode cX5_level 9 = .ok (.lconst 1, 1) := dk_10 (dk_at dksX5_level_0 9 rfl rfl)
theorem dX5_level_10 : decode cX5_level 10 = .ok (.invokestatic 65, 3) := dk_184 0 65 (dk_at dksX5_level_0 10 rfl rfl)
theorem dX5_level_13 : decode cX5_level 13 = .ok (.iconst 1, 1) := dk_4 (dk_at dksX5_level_0 13 rfl rfl)
theorem dX5_level_14 : decode cX5_level 14 = .ok (.invokevirtual 183, 3) := dk_182 0 183 (dk_at dksX5_level_0 14 rfl rfl)
theorem dX5_level_17 : decode cX5_level 17 = .ok (.ifCond .eq 12, 3) := dk_153 0 12 (dk_at dksX5_level_0 17 rfl rfl)
theorem dX5_level_20 : decode cX5_level 20 = .ok (.aload_n 0, 1) := dk_42 (dk_at dksX5_level_0 20 rfl rfl)
theorem dX5_level_21 : decode cX5_level 21 = .ok (.iload_n 1, 1) := dk_27 (dk_at dksX5_level_0 21 rfl rfl)
theorem dX5_level_22 : decode cX5_level 22 = .ok (.iload_n 2, 1) := dk_28 (dk_at dksX5_level_0 22 rfl rfl)
theorem dX5_level_23 : decode cX5_level 23 = .ok (.invokevirtual 269, 3) := dk_182 1 13 (dk_at dksX5_level_1 0 rfl rfl)
theorem dX5_level_26 : decode cX5_level 26 = .ok (.goto 4, 3) := dk_167 0 4 (dk_at dksX5_level_1 3 rfl rfl)
theorem dX5_level_29 : decode cX5_level 29 = .ok (.iconst 0, 1) := dk_3 (dk_at dksX5_level_1 6 rfl rfl)
theorem dX5_level_30 : decode cX5_level 30 = .ok (.ireturn, 1) := dk_172 (dk_at dksX5_level_1 7 rfl rfl)
abbrev cX5_levelPart : ByteArray := prog_13_method_68_code
def yX5_levelPart : MethodName := ⟨RX5, "levelPart", "(II)I"⟩
def dkwX5_levelPart_1 : List UInt8 := [184, 1, 9, 66, 28, 154, 0, 10, 42, 180, 0, 159, 167, 0, 7, 42, 180, 0, 155, 33, 109, 136, 172]
abbrev dktX5_levelPart_1 : List UInt8 := dkwX5_levelPart_1 ++ []
def dkwX5_levelPart_0 : List UInt8 := [42, 182, 0, 152, 42, 42, 180, 0, 29, 27, 46, 182, 0, 162, 42, 180, 0, 159, 42, 180, 0, 155]
abbrev dktX5_levelPart_0 : List UInt8 := dkwX5_levelPart_0 ++ dktX5_levelPart_1
theorem dksX5_levelPart_0 : cX5_levelPart.data.toList.drop 0 = dktX5_levelPart_0 := by decide +kernel
theorem dksX5_levelPart_1 : cX5_levelPart.data.toList.drop 22 = dktX5_levelPart_1 := dk_seg dksX5_levelPart_0 22 rfl rfl
theorem dX5_levelPart_0 : decode cX5_levelPart 0 = .ok (.aload_n 0, 1) := dk_42 (dk_at dksX5_levelPart_0 0 rfl rfl)
theorem dX5_levelPart_1 : decode cX5_levelPart 1 = .ok (.invokevirtual 152, 3) := dk_182 0 152 (dk_at dksX5_levelPart_0 1 rfl rfl)
theorem dX5_levelPart_4 : decode cX5_levelPart 4 = .ok (.aload_n 0, 1) := dk_42 (dk_at dksX5_levelPart_0 4 rfl rfl)
theorem dX5_levelPart_5 : decode cX5_levelPart 5 = .ok (.aload_n 0, 1) := dk_42 (dk_at dksX5_levelPart_0 5 rfl rfl)
theorem dX5_levelPart_6 : decode cX5_levelPart 6 = .ok (.getfield 29, 3) := dk_180 0 29 (dk_at dksX5_levelPart_0 6 rfl rfl)
theorem dX5_levelPart_9 : decode cX5_levelPart 9 = .ok (.iload_n 1, 1) := dk_27 (dk_at dksX5_levelPart_0 9 rfl rfl)
theorem dX5_levelPart_10 : decode cX5_levelPart 10 = .ok (.iaload, 1) := dk_46 (dk_at dksX5_levelPart_0 10 rfl rfl)
theorem dX5_levelPart_11 : decode cX5_levelPart 11 = .ok (.invokevirtual 162, 3) := dk_182 0 162 (dk_at dksX5_levelPart_0 11 rfl rfl)
theorem dX5_levelPart_14 : decode cX5_levelPart 14 = .ok (.aload_n 0, 1) := dk_42 (dk_at dksX5_levelPart_0 14 rfl rfl)
theorem dX5_levelPart_15 : decode cX5_levelPart 15 = .ok (.getfield 159, 3) := dk_180 0 159 (dk_at dksX5_levelPart_0 15 rfl rfl)
theorem dX5_levelPart_18 : decode cX5_levelPart 18 = .ok (.aload_n 0, 1) := dk_42 (dk_at dksX5_levelPart_0 18 rfl rfl)
theorem dX5_levelPart_19 : decode cX5_levelPart 19 = .ok (.getfield 155, 3) := dk_180 0 155 (dk_at dksX5_levelPart_0 19 rfl rfl)
theorem dX5_levelPart_22 : decode cX5_levelPart 22 = .ok (.invokestatic 265, 3) := dk_184 1 9 (dk_at dksX5_levelPart_1 0 rfl rfl)
theorem dX5_levelPart_25 : decode cX5_levelPart 25 = .ok (.lstore_n 3, 1) := dk_66 (dk_at dksX5_levelPart_1 3 rfl rfl)
theorem dX5_levelPart_26 : decode cX5_levelPart 26 = .ok (.iload_n 2, 1) := dk_28 (dk_at dksX5_levelPart_1 4 rfl rfl)
theorem dX5_levelPart_27 : decode cX5_levelPart 27 = .ok (.ifCond .ne 10, 3) := dk_154 0 10 (dk_at dksX5_levelPart_1 5 rfl rfl)
theorem dX5_levelPart_30 : decode cX5_levelPart 30 = .ok (.aload_n 0, 1) := dk_42 (dk_at dksX5_levelPart_1 8 rfl rfl)
theorem dX5_levelPart_31 : decode cX5_levelPart 31 = .ok (.getfield 159, 3) := dk_180 0 159 (dk_at dksX5_levelPart_1 9 rfl rfl)
theorem dX5_levelPart_34 : decode cX5_levelPart 34 = .ok (.goto 7, 3) := dk_167 0 7 (dk_at dksX5_levelPart_1 12 rfl rfl)
theorem dX5_levelPart_37 : decode cX5_levelPart 37 = .ok (.aload_n 0, 1) := dk_42 (dk_at dksX5_levelPart_1 15 rfl rfl)
theorem dX5_levelPart_38 : decode cX5_levelPart 38 = .ok (.getfield 155, 3) := dk_180 0 155 (dk_at dksX5_levelPart_1 16 rfl rfl)
theorem dX5_levelPart_41 : decode cX5_levelPart 41 = .ok (.lload_n 3, 1) := dk_33 (dk_at dksX5_levelPart_1 19 rfl rfl)
theorem dX5_levelPart_42 : decode cX5_levelPart 42 = .ok (.ldiv, 1) := dk_109 (dk_at dksX5_levelPart_1 20 rfl rfl)
theorem dX5_levelPart_43 : decode cX5_levelPart 43 = .ok (.l2i, 1) := dk_136 (dk_at dksX5_levelPart_1 21 rfl rfl)
theorem dX5_levelPart_44 : decode cX5_levelPart 44 = .ok (.ireturn, 1) := dk_172 (dk_at dksX5_levelPart_1 22 rfl rfl)
abbrev cX5_divisor : ByteArray := prog_13_method_41_code
def yX5_divisor : MethodName := ⟨RX5, "divisor", "(JJ)J"⟩
def dkwX5_divisor_1 : List UInt8 := [22, 8, 55, 6, 167, 255, 234, 22, 4, 173]
abbrev dktX5_divisor_1 : List UInt8 := dkwX5_divisor_1 ++ []
def dkwX5_divisor_0 : List UInt8 := [30, 55, 4, 32, 55, 6, 22, 6, 9, 148, 153, 0, 21, 22, 4, 22, 6, 113, 55, 8, 22, 6, 55, 4]
abbrev dktX5_divisor_0 : List UInt8 := dkwX5_divisor_0 ++ dktX5_divisor_1
theorem dksX5_divisor_0 : cX5_divisor.data.toList.drop 0 = dktX5_divisor_0 := by decide +kernel
theorem dksX5_divisor_1 : cX5_divisor.data.toList.drop 24 = dktX5_divisor_1 := dk_seg dksX5_divisor_0 24 rfl rfl
theorem dX5_divisor_0 : decode cX5_divisor 0 = .ok (.lload_n 0, 1) := dk_30 (dk_at dksX5_divisor_0 0 rfl rfl)
theorem dX5_divisor_1 : decode cX5_divisor 1 = .ok (.lstore 4, 2) := dk_55 4 (dk_at dksX5_divisor_0 1 rfl rfl)
theorem dX5_divisor_3 : decode cX5_divisor 3 = .ok (.lload_n 2, 1) := dk_32 (dk_at dksX5_divisor_0 3 rfl rfl)
theorem dX5_divisor_4 : decode cX5_divisor 4 = .ok (.lstore 6, 2) := dk_55 6 (dk_at dksX5_divisor_0 4 rfl rfl)
theorem dX5_divisor_6 : decode cX5_divisor 6 = .ok (.lload 6, 2) := dk_22 6 (dk_at dksX5_divisor_0 6 rfl rfl)
theorem dX5_divisor_8 : decode cX5_divisor 8 = .ok (.lconst 0, 1) := dk_9 (dk_at dksX5_divisor_0 8 rfl rfl)
theorem dX5_divisor_9 : decode cX5_divisor 9 = .ok (.lcmp, 1) := dk_148 (dk_at dksX5_divisor_0 9 rfl rfl)
theorem dX5_divisor_10 : decode cX5_divisor 10 = .ok (.ifCond .eq 21, 3) := dk_153 0 21 (dk_at dksX5_divisor_0 10 rfl rfl)
theorem dX5_divisor_13 : decode cX5_divisor 13 = .ok (.lload 4, 2) := dk_22 4 (dk_at dksX5_divisor_0 13 rfl rfl)
theorem dX5_divisor_15 : decode cX5_divisor 15 = .ok (.lload 6, 2) := dk_22 6 (dk_at dksX5_divisor_0 15 rfl rfl)
theorem dX5_divisor_17 : decode cX5_divisor 17 = .ok (.lrem, 1) := dk_113 (dk_at dksX5_divisor_0 17 rfl rfl)
theorem dX5_divisor_18 : decode cX5_divisor 18 = .ok (.lstore 8, 2) := dk_55 8 (dk_at dksX5_divisor_0 18 rfl rfl)
theorem dX5_divisor_20 : decode cX5_divisor 20 = .ok (.lload 6, 2) := dk_22 6 (dk_at dksX5_divisor_0 20 rfl rfl)
theorem dX5_divisor_22 : decode cX5_divisor 22 = .ok (.lstore 4, 2) := dk_55 4 (dk_at dksX5_divisor_0 22 rfl rfl)
theorem dX5_divisor_24 : decode cX5_divisor 24 = .ok (.lload 8, 2) := dk_22 8 (dk_at dksX5_divisor_1 0 rfl rfl)
theorem dX5_divisor_26 : decode cX5_divisor 26 = .ok (.lstore 6, 2) := dk_55 6 (dk_at dksX5_divisor_1 2 rfl rfl)
theorem dX5_divisor_28 : decode cX5_divisor 28 = .ok (.goto (-22), 3) := dk_167 255 234 (dk_at dksX5_divisor_1 4 rfl rfl)
theorem dX5_divisor_31 : decode cX5_divisor 31 = .ok (.lload 4, 2) := dk_22 4 (dk_at dksX5_divisor_1 7 rfl rfl)
theorem dX5_divisor_33 : decode cX5_divisor 33 = .ok (.lreturn, 1) := dk_173 (dk_at dksX5_divisor_1 9 rfl rfl)
abbrev cX5_depth : ByteArray := prog_13_method_70_code
def yX5_depth : MethodName := ⟨RX5, "depth", "(I)D"⟩
def dkwX5_depth_3 : List UInt8 := [138, 111, 175]
abbrev dktX5_depth_3 : List UInt8 := dkwX5_depth_3 ++ []
def dkwX5_depth_2 : List UInt8 := [101, 65, 32, 42, 180, 0, 155, 184, 1, 9, 55, 4, 32, 22, 4, 109, 138, 42, 180, 0, 155, 22, 4, 109]
abbrev dktX5_depth_2 : List UInt8 := dkwX5_depth_2 ++ dktX5_depth_3
def dkwX5_depth_1 : List UInt8 := [42, 42, 27, 182, 0, 133, 182, 0, 162, 42, 180, 0, 159, 42, 180, 0, 155, 42, 27, 182, 0, 87, 133, 105]
abbrev dktX5_depth_1 : List UInt8 := dkwX5_depth_1 ++ dktX5_depth_2
def dkwX5_depth_0 : List UInt8 := [42, 42, 27, 182, 0, 73, 4, 4, 182, 0, 183, 153, 0, 11, 42, 27, 182, 0, 165, 154, 0, 5, 14, 175]
abbrev dktX5_depth_0 : List UInt8 := dkwX5_depth_0 ++ dktX5_depth_1
theorem dksX5_depth_0 : cX5_depth.data.toList.drop 0 = dktX5_depth_0 := by decide +kernel
theorem dksX5_depth_1 : cX5_depth.data.toList.drop 24 = dktX5_depth_1 := dk_seg dksX5_depth_0 24 rfl rfl
theorem dksX5_depth_2 : cX5_depth.data.toList.drop 48 = dktX5_depth_2 := dk_seg dksX5_depth_1 24 rfl rfl
theorem dksX5_depth_3 : cX5_depth.data.toList.drop 72 = dktX5_depth_3 := dk_seg dksX5_depth_2 24 rfl rfl
theorem dX5_depth_0 : decode cX5_depth 0 = .ok (.aload_n 0, 1) := dk_42 (dk_at dksX5_depth_0 0 rfl rfl)
theorem dX5_depth_1 : decode cX5_depth 1 = .ok (.aload_n 0, 1) := dk_42 (dk_at dksX5_depth_0 1 rfl rfl)
theorem dX5_depth_2 : decode cX5_depth 2 = .ok (.iload_n 1, 1) := dk_27 (dk_at dksX5_depth_0 2 rfl rfl)
theorem dX5_depth_3 : decode cX5_depth 3 = .ok (.invokevirtual 73, 3) := dk_182 0 73 (dk_at dksX5_depth_0 3 rfl rfl)
theorem dX5_depth_6 : decode cX5_depth 6 = .ok (.iconst 1, 1) := dk_4 (dk_at dksX5_depth_0 6 rfl rfl)
theorem dX5_depth_7 : decode cX5_depth 7 = .ok (.iconst 1, 1) := dk_4 (dk_at dksX5_depth_0 7 rfl rfl)
theorem dX5_depth_8 : decode cX5_depth 8 = .ok (.invokevirtual 183, 3) := dk_182 0 183 (dk_at dksX5_depth_0 8 rfl rfl)
theorem dX5_depth_11 : decode cX5_depth 11 = .ok (.ifCond .eq 11, 3) := dk_153 0 11 (dk_at dksX5_depth_0 11 rfl rfl)
theorem dX5_depth_14 : decode cX5_depth 14 = .ok (.aload_n 0, 1) := dk_42 (dk_at dksX5_depth_0 14 rfl rfl)
theorem dX5_depth_15 : decode cX5_depth 15 = .ok (.iload_n 1, 1) := dk_27 (dk_at dksX5_depth_0 15 rfl rfl)
theorem dX5_depth_16 : decode cX5_depth 16 = .ok (.invokevirtual 165, 3) := dk_182 0 165 (dk_at dksX5_depth_0 16 rfl rfl)
theorem dX5_depth_19 : decode cX5_depth 19 = .ok (.ifCond .ne 5, 3) := dk_154 0 5 (dk_at dksX5_depth_0 19 rfl rfl)
theorem dX5_depth_22 : decode cX5_depth 22 = .ok (.dconst 0, 1) := dk_14 (dk_at dksX5_depth_0 22 rfl rfl)
theorem dX5_depth_23 : decode cX5_depth 23 = .ok (.dreturn, 1) := dk_175 (dk_at dksX5_depth_0 23 rfl rfl)
theorem dX5_depth_24 : decode cX5_depth 24 = .ok (.aload_n 0, 1) := dk_42 (dk_at dksX5_depth_1 0 rfl rfl)
theorem dX5_depth_25 : decode cX5_depth 25 = .ok (.aload_n 0, 1) := dk_42 (dk_at dksX5_depth_1 1 rfl rfl)
theorem dX5_depth_26 : decode cX5_depth 26 = .ok (.iload_n 1, 1) := dk_27 (dk_at dksX5_depth_1 2 rfl rfl)
theorem dX5_depth_27 : decode cX5_depth 27 = .ok (.invokevirtual 133, 3) := dk_182 0 133 (dk_at dksX5_depth_1 3 rfl rfl)
theorem dX5_depth_30 : decode cX5_depth 30 = .ok (.invokevirtual 162, 3) := dk_182 0 162 (dk_at dksX5_depth_1 6 rfl rfl)
theorem dX5_depth_33 : decode cX5_depth 33 = .ok (.aload_n 0, 1) := dk_42 (dk_at dksX5_depth_1 9 rfl rfl)
theorem dX5_depth_34 : decode cX5_depth 34 = .ok (.getfield 159, 3) := dk_180 0 159 (dk_at dksX5_depth_1 10 rfl rfl)
theorem dX5_depth_37 : decode cX5_depth 37 = .ok (.aload_n 0, 1) := dk_42 (dk_at dksX5_depth_1 13 rfl rfl)
theorem dX5_depth_38 : decode cX5_depth 38 = .ok (.getfield 155, 3) := dk_180 0 155 (dk_at dksX5_depth_1 14 rfl rfl)
theorem dX5_depth_41 : decode cX5_depth 41 = .ok (.aload_n 0, 1) := dk_42 (dk_at dksX5_depth_1 17 rfl rfl)
theorem dX5_depth_42 : decode cX5_depth 42 = .ok (.iload_n 1, 1) := dk_27 (dk_at dksX5_depth_1 18 rfl rfl)
theorem dX5_depth_43 : decode cX5_depth 43 = .ok (.invokevirtual 87, 3) := dk_182 0 87 (dk_at dksX5_depth_1 19 rfl rfl)
theorem dX5_depth_46 : decode cX5_depth 46 = .ok (.i2l, 1) := dk_133 (dk_at dksX5_depth_1 22 rfl rfl)
theorem dX5_depth_47 : decode cX5_depth 47 = .ok (.lmul, 1) := dk_105 (dk_at dksX5_depth_1 23 rfl rfl)
theorem dX5_depth_48 : decode cX5_depth 48 = .ok (.lsub, 1) := dk_101 (dk_at dksX5_depth_2 0 rfl rfl)
theorem dX5_depth_49 : decode cX5_depth 49 = .ok (.lstore_n 2, 1) := dk_65 (dk_at dksX5_depth_2 1 rfl rfl)
theorem dX5_depth_50 : decode cX5_depth 50 = .ok (.lload_n 2, 1) := dk_32 (dk_at dksX5_depth_2 2 rfl rfl)
theorem dX5_depth_51 : decode cX5_depth 51 = .ok (.aload_n 0, 1) := dk_42 (dk_at dksX5_depth_2 3 rfl rfl)
theorem dX5_depth_52 : decode cX5_depth 52 = .ok (.getfield 155, 3) := dk_180 0 155 (dk_at dksX5_depth_2 4 rfl rfl)
theorem dX5_depth_55 : decode cX5_depth 55 = .ok (.invokestatic 265, 3) := dk_184 1 9 (dk_at dksX5_depth_2 7 rfl rfl)
theorem dX5_depth_58 : decode cX5_depth 58 = .ok (.lstore 4, 2) := dk_55 4 (dk_at dksX5_depth_2 10 rfl rfl)
theorem dX5_depth_60 : decode cX5_depth 60 = .ok (.lload_n 2, 1) := dk_32 (dk_at dksX5_depth_2 12 rfl rfl)
theorem dX5_depth_61 : decode cX5_depth 61 = .ok (.lload 4, 2) := dk_22 4 (dk_at dksX5_depth_2 13 rfl rfl)
theorem dX5_depth_63 : decode cX5_depth 63 = .ok (.ldiv, 1) := dk_109 (dk_at dksX5_depth_2 15 rfl rfl)
theorem dX5_depth_64 : decode cX5_depth 64 = .ok (.l2d, 1) := dk_138 (dk_at dksX5_depth_2 16 rfl rfl)
theorem dX5_depth_65 : decode cX5_depth 65 = .ok (.aload_n 0, 1) := dk_42 (dk_at dksX5_depth_2 17 rfl rfl)
theorem dX5_depth_66 : decode cX5_depth 66 = .ok (.getfield 155, 3) := dk_180 0 155 (dk_at dksX5_depth_2 18 rfl rfl)
theorem dX5_depth_69 : decode cX5_depth 69 = .ok (.lload 4, 2) := dk_22 4 (dk_at dksX5_depth_2 21 rfl rfl)
theorem dX5_depth_71 : decode cX5_depth 71 = .ok (.ldiv, 1) := dk_109 (dk_at dksX5_depth_2 23 rfl rfl)
theorem dX5_depth_72 : decode cX5_depth 72 = .ok (.l2d, 1) := dk_138 (dk_at dksX5_depth_3 0 rfl rfl)
theorem dX5_depth_73 : decode cX5_depth 73 = .ok (.ddiv, 1) := dk_111 (dk_at dksX5_depth_3 1 rfl rfl)
theorem dX5_depth_74 : decode cX5_depth 74 = .ok (.dreturn, 1) := dk_175 (dk_at dksX5_depth_3 2 rfl rfl)
abbrev cX5_deepest : ByteArray := prog_13_method_71_code
def yX5_deepest : MethodName := ⟨RX5, "deepest", "()I"⟩
def dkwX5_deepest_4 : List UInt8 := [132, 6, 1, 167, 255, 174, 27, 172]
abbrev dktX5_deepest_4 : List UInt8 := dkwX5_deepest_4 ++ []
def dkwX5_deepest_3 : List UInt8 := [32, 42, 180, 0, 155, 105, 148, 158, 0, 15, 21, 6, 60, 22, 7, 65, 42, 180, 0, 155, 55, 4]
abbrev dktX5_deepest_3 : List UInt8 := dkwX5_deepest_3 ++ dktX5_deepest_4
def dkwX5_deepest_2 : List UInt8 := [180, 0, 155, 42, 21, 6, 182, 0, 87, 133, 105, 101, 55, 7, 27, 2, 159, 0, 18, 22, 7, 22, 4, 105]
abbrev dktX5_deepest_2 : List UInt8 := dkwX5_deepest_2 ++ dktX5_deepest_3
def dkwX5_deepest_1 : List UInt8 := [42, 21, 6, 182, 0, 165, 153, 0, 64, 42, 42, 21, 6, 182, 0, 133, 182, 0, 162, 42, 180, 0, 159, 42]
abbrev dktX5_deepest_1 : List UInt8 := dkwX5_deepest_1 ++ dktX5_deepest_2
def dkwX5_deepest_0 : List UInt8 := [42, 3, 181, 0, 54, 2, 60, 9, 65, 10, 55, 4, 3, 54, 6, 21, 6, 42, 182, 0, 61, 162, 0, 79]
abbrev dktX5_deepest_0 : List UInt8 := dkwX5_deepest_0 ++ dktX5_deepest_1
theorem dksX5_deepest_0 : cX5_deepest.data.toList.drop 0 = dktX5_deepest_0 := by decide +kernel
theorem dksX5_deepest_1 : cX5_deepest.data.toList.drop 24 = dktX5_deepest_1 := dk_seg dksX5_deepest_0 24 rfl rfl
theorem dksX5_deepest_2 : cX5_deepest.data.toList.drop 48 = dktX5_deepest_2 := dk_seg dksX5_deepest_1 24 rfl rfl
theorem dksX5_deepest_3 : cX5_deepest.data.toList.drop 72 = dktX5_deepest_3 := dk_seg dksX5_deepest_2 24 rfl rfl
theorem dksX5_deepest_4 : cX5_deepest.data.toList.drop 94 = dktX5_deepest_4 := dk_seg dksX5_deepest_3 22 rfl rfl
theorem dX5_deepest_0 : decode cX5_deepest 0 = .ok (.aload_n 0, 1) := dk_42 (dk_at dksX5_deepest_0 0 rfl rfl)
theorem dX5_deepest_1 : decode cX5_deepest 1 = .ok (.iconst 0, 1) := dk_3 (dk_at dksX5_deepest_0 1 rfl rfl)
theorem dX5_deepest_2 : decode cX5_deepest 2 = .ok (.putfield 54, 3) := dk_181 0 54 (dk_at dksX5_deepest_0 2 rfl rfl)
theorem dX5_deepest_5 : decode cX5_deepest 5 = .ok (.iconst (-1), 1) := dk_2 (dk_at dksX5_deepest_0 5 rfl rfl)
theorem dX5_deepest_6 : decode cX5_deepest 6 = .ok (.istore_n 1, 1) := dk_60 (dk_at dksX5_deepest_0 6 rfl rfl)
theorem dX5_deepest_7 : decode cX5_deepest 7 = .ok (.lconst 0, 1) := dk_9 (dk_at dksX5_deepest_0 7 rfl rfl)
theorem dX5_deepest_8 : decode cX5_deepest 8 = .ok (.lstore_n 2, 1) := dk_65 (dk_at dksX5_deepest_0 8 rfl rfl)
theorem dX5_deepest_9 : decode cX5_deepest 9 = .ok (.lconst 1, 1) := dk_10 (dk_at dksX5_deepest_0 9 rfl rfl)
theorem dX5_deepest_10 : decode cX5_deepest 10 = .ok (.lstore 4, 2) := dk_55 4 (dk_at dksX5_deepest_0 10 rfl rfl)
theorem dX5_deepest_12 : decode cX5_deepest 12 = .ok (.iconst 0, 1) := dk_3 (dk_at dksX5_deepest_0 12 rfl rfl)
theorem dX5_deepest_13 : decode cX5_deepest 13 = .ok (.istore 6, 2) := dk_54 6 (dk_at dksX5_deepest_0 13 rfl rfl)
theorem dX5_deepest_15 : decode cX5_deepest 15 = .ok (.iload 6, 2) := dk_21 6 (dk_at dksX5_deepest_0 15 rfl rfl)
theorem dX5_deepest_17 : decode cX5_deepest 17 = .ok (.aload_n 0, 1) := dk_42 (dk_at dksX5_deepest_0 17 rfl rfl)
theorem dX5_deepest_18 : decode cX5_deepest 18 = .ok (.invokevirtual 61, 3) := dk_182 0 61 (dk_at dksX5_deepest_0 18 rfl rfl)
theorem dX5_deepest_21 : decode cX5_deepest 21 = .ok (.if_icmp .ge 79, 3) := dk_162 0 79 (dk_at dksX5_deepest_0 21 rfl rfl)
theorem dX5_deepest_24 : decode cX5_deepest 24 = .ok (.aload_n 0, 1) := dk_42 (dk_at dksX5_deepest_1 0 rfl rfl)
theorem dX5_deepest_25 : decode cX5_deepest 25 = .ok (.iload 6, 2) := dk_21 6 (dk_at dksX5_deepest_1 1 rfl rfl)
theorem dX5_deepest_27 : decode cX5_deepest 27 = .ok (.invokevirtual 165, 3) := dk_182 0 165 (dk_at dksX5_deepest_1 3 rfl rfl)
theorem dX5_deepest_30 : decode cX5_deepest 30 = .ok (.ifCond .eq 64, 3) := dk_153 0 64 (dk_at dksX5_deepest_1 6 rfl rfl)
theorem dX5_deepest_33 : decode cX5_deepest 33 = .ok (.aload_n 0, 1) := dk_42 (dk_at dksX5_deepest_1 9 rfl rfl)
theorem dX5_deepest_34 : decode cX5_deepest 34 = .ok (.aload_n 0, 1) := dk_42 (dk_at dksX5_deepest_1 10 rfl rfl)
theorem dX5_deepest_35 : decode cX5_deepest 35 = .ok (.iload 6, 2) := dk_21 6 (dk_at dksX5_deepest_1 11 rfl rfl)
theorem dX5_deepest_37 : decode cX5_deepest 37 = .ok (.invokevirtual 133, 3) := dk_182 0 133 (dk_at dksX5_deepest_1 13 rfl rfl)
theorem dX5_deepest_40 : decode cX5_deepest 40 = .ok (.invokevirtual 162, 3) := dk_182 0 162 (dk_at dksX5_deepest_1 16 rfl rfl)
theorem dX5_deepest_43 : decode cX5_deepest 43 = .ok (.aload_n 0, 1) := dk_42 (dk_at dksX5_deepest_1 19 rfl rfl)
theorem dX5_deepest_44 : decode cX5_deepest 44 = .ok (.getfield 159, 3) := dk_180 0 159 (dk_at dksX5_deepest_1 20 rfl rfl)
theorem dX5_deepest_47 : decode cX5_deepest 47 = .ok (.aload_n 0, 1) := dk_42 (dk_at dksX5_deepest_1 23 rfl rfl)
theorem dX5_deepest_48 : decode cX5_deepest 48 = .ok (.getfield 155, 3) := dk_180 0 155 (dk_at dksX5_deepest_2 0 rfl rfl)
theorem dX5_deepest_51 : decode cX5_deepest 51 = .ok (.aload_n 0, 1) := dk_42 (dk_at dksX5_deepest_2 3 rfl rfl)
theorem dX5_deepest_52 : decode cX5_deepest 52 = .ok (.iload 6, 2) := dk_21 6 (dk_at dksX5_deepest_2 4 rfl rfl)
theorem dX5_deepest_54 : decode cX5_deepest 54 = .ok (.invokevirtual 87, 3) := dk_182 0 87 (dk_at dksX5_deepest_2 6 rfl rfl)
theorem dX5_deepest_57 : decode cX5_deepest 57 = .ok (.i2l, 1) := dk_133 (dk_at dksX5_deepest_2 9 rfl rfl)
theorem dX5_deepest_58 : decode cX5_deepest 58 = .ok (.lmul, 1) := dk_105 (dk_at dksX5_deepest_2 10 rfl rfl)
theorem dX5_deepest_59 : decode cX5_deepest 59 = .ok (.lsub, 1) := dk_101 (dk_at dksX5_deepest_2 11 rfl rfl)
theorem dX5_deepest_60 : decode cX5_deepest 60 = .ok (.lstore 7, 2) := dk_55 7 (dk_at dksX5_deepest_2 12 rfl rfl)
theorem dX5_deepest_62 : decode cX5_deepest 62 = .ok (.iload_n 1, 1) := dk_27 (dk_at dksX5_deepest_2 14 rfl rfl)
theorem dX5_deepest_63 : decode cX5_deepest 63 = .ok (.iconst (-1), 1) := dk_2 (dk_at dksX5_deepest_2 15 rfl rfl)
theorem dX5_deepest_64 : decode cX5_deepest 64 = .ok (.if_icmp .eq 18, 3) := dk_159 0 18 (dk_at dksX5_deepest_2 16 rfl rfl)
theorem dX5_deepest_67 : decode cX5_deepest 67 = .ok (.lload 7, 2) := dk_22 7 (dk_at dksX5_deepest_2 19 rfl rfl)
theorem dX5_deepest_69 : decode cX5_deepest 69 = .ok (.lload 4, 2) := dk_22 4 (dk_at dksX5_deepest_2 21 rfl rfl)
theorem dX5_deepest_71 : decode cX5_deepest 71 = .ok (.lmul, 1) := dk_105 (dk_at dksX5_deepest_2 23 rfl rfl)
theorem dX5_deepest_72 : decode cX5_deepest 72 = .ok (.lload_n 2, 1) := dk_32 (dk_at dksX5_deepest_3 0 rfl rfl)
theorem dX5_deepest_73 : decode cX5_deepest 73 = .ok (.aload_n 0, 1) := dk_42 (dk_at dksX5_deepest_3 1 rfl rfl)
theorem dX5_deepest_74 : decode cX5_deepest 74 = .ok (.getfield 155, 3) := dk_180 0 155 (dk_at dksX5_deepest_3 2 rfl rfl)
theorem dX5_deepest_77 : decode cX5_deepest 77 = .ok (.lmul, 1) := dk_105 (dk_at dksX5_deepest_3 5 rfl rfl)
theorem dX5_deepest_78 : decode cX5_deepest 78 = .ok (.lcmp, 1) := dk_148 (dk_at dksX5_deepest_3 6 rfl rfl)
theorem dX5_deepest_79 : decode cX5_deepest 79 = .ok (.ifCond .le 15, 3) := dk_158 0 15 (dk_at dksX5_deepest_3 7 rfl rfl)
theorem dX5_deepest_82 : decode cX5_deepest 82 = .ok (.iload 6, 2) := dk_21 6 (dk_at dksX5_deepest_3 10 rfl rfl)
theorem dX5_deepest_84 : decode cX5_deepest 84 = .ok (.istore_n 1, 1) := dk_60 (dk_at dksX5_deepest_3 12 rfl rfl)
theorem dX5_deepest_85 : decode cX5_deepest 85 = .ok (.lload 7, 2) := dk_22 7 (dk_at dksX5_deepest_3 13 rfl rfl)
theorem dX5_deepest_87 : decode cX5_deepest 87 = .ok (.lstore_n 2, 1) := dk_65 (dk_at dksX5_deepest_3 15 rfl rfl)
theorem dX5_deepest_88 : decode cX5_deepest 88 = .ok (.aload_n 0, 1) := dk_42 (dk_at dksX5_deepest_3 16 rfl rfl)
theorem dX5_deepest_89 : decode cX5_deepest 89 = .ok (.getfield 155, 3) := dk_180 0 155 (dk_at dksX5_deepest_3 17 rfl rfl)
theorem dX5_deepest_92 : decode cX5_deepest 92 = .ok (.lstore 4, 2) := dk_55 4 (dk_at dksX5_deepest_3 20 rfl rfl)
theorem dX5_deepest_94 : decode cX5_deepest 94 = .ok (.iinc 6 1, 3) := dk_132 6 1 (dk_at dksX5_deepest_4 0 rfl rfl)
theorem dX5_deepest_97 : decode cX5_deepest 97 = .ok (.goto (-82), 3) := dk_167 255 174 (dk_at dksX5_deepest_4 3 rfl rfl)
theorem dX5_deepest_100 : decode cX5_deepest 100 = .ok (.iload_n 1, 1) := dk_27 (dk_at dksX5_deepest_4 6 rfl rfl)
theorem dX5_deepest_101 : decode cX5_deepest 101 = .ok (.ireturn, 1) := dk_172 (dk_at dksX5_deepest_4 7 rfl rfl)
abbrev cX5_course : ByteArray := prog_13_method_72_code
def yX5_course : MethodName := ⟨RX5, "course", "(I)J"⟩
def dkwX5_course_4 : List UInt8 := [167, 255, 213, 22, 4, 173]
abbrev dktX5_course_4 : List UInt8 := dkwX5_course_4 ++ []
def dkwX5_course_3 : List UInt8 := [180, 0, 7, 5, 47, 127, 9, 148, 153, 0, 7, 2, 167, 0, 8, 42, 32, 182, 0, 102, 54, 6]
abbrev dktX5_course_3 : List UInt8 := dkwX5_course_3 ++ dktX5_course_4
def dkwX5_course_2 : List UInt8 := [54, 6, 21, 6, 2, 159, 0, 43, 42, 21, 6, 182, 0, 98, 65, 22, 4, 32, 129, 55, 4, 32, 42]
abbrev dktX5_course_2 : List UInt8 := dkwX5_course_2 ++ dktX5_course_3
def dkwX5_course_1 : List UInt8 := [55, 4, 32, 42, 180, 0, 7, 5, 47, 127, 9, 148, 153, 0, 7, 2, 167, 0, 8, 42, 32, 182, 0, 102]
abbrev dktX5_course_1 : List UInt8 := dkwX5_course_1 ++ dktX5_course_2
def dkwX5_course_0 : List UInt8 := [42, 42, 27, 182, 0, 73, 4, 4, 182, 0, 183, 154, 0, 5, 9, 173, 42, 27, 182, 0, 98, 65, 32]
abbrev dktX5_course_0 : List UInt8 := dkwX5_course_0 ++ dktX5_course_1
theorem dksX5_course_0 : cX5_course.data.toList.drop 0 = dktX5_course_0 := by decide +kernel
theorem dksX5_course_1 : cX5_course.data.toList.drop 23 = dktX5_course_1 := dk_seg dksX5_course_0 23 rfl rfl
theorem dksX5_course_2 : cX5_course.data.toList.drop 47 = dktX5_course_2 := dk_seg dksX5_course_1 24 rfl rfl
theorem dksX5_course_3 : cX5_course.data.toList.drop 70 = dktX5_course_3 := dk_seg dksX5_course_2 23 rfl rfl
theorem dksX5_course_4 : cX5_course.data.toList.drop 92 = dktX5_course_4 := dk_seg dksX5_course_3 22 rfl rfl
theorem dX5_course_0 : decode cX5_course 0 = .ok (.aload_n 0, 1) := dk_42 (dk_at dksX5_course_0 0 rfl rfl)
theorem dX5_course_1 : decode cX5_course 1 = .ok (.aload_n 0, 1) := dk_42 (dk_at dksX5_course_0 1 rfl rfl)
theorem dX5_course_2 : decode cX5_course 2 = .ok (.iload_n 1, 1) := dk_27 (dk_at dksX5_course_0 2 rfl rfl)
theorem dX5_course_3 : decode cX5_course 3 = .ok (.invokevirtual 73, 3) := dk_182 0 73 (dk_at dksX5_course_0 3 rfl rfl)
theorem dX5_course_6 : decode cX5_course 6 = .ok (.iconst 1, 1) := dk_4 (dk_at dksX5_course_0 6 rfl rfl)
theorem dX5_course_7 : decode cX5_course 7 = .ok (.iconst 1, 1) := dk_4 (dk_at dksX5_course_0 7 rfl rfl)
theorem dX5_course_8 : decode cX5_course 8 = .ok (.invokevirtual 183, 3) := dk_182 0 183 (dk_at dksX5_course_0 8 rfl rfl)
theorem dX5_course_11 : decode cX5_course 11 = .ok (.ifCond .ne 5, 3) := dk_154 0 5 (dk_at dksX5_course_0 11 rfl rfl)
theorem dX5_course_14 : decode cX5_course 14 = .ok (.lconst 0, 1) := dk_9 (dk_at dksX5_course_0 14 rfl rfl)
theorem dX5_course_15 : decode cX5_course 15 = .ok (.lreturn, 1) := dk_173 (dk_at dksX5_course_0 15 rfl rfl)
theorem dX5_course_16 : decode cX5_course 16 = .ok (.aload_n 0, 1) := dk_42 (dk_at dksX5_course_0 16 rfl rfl)
theorem dX5_course_17 : decode cX5_course 17 = .ok (.iload_n 1, 1) := dk_27 (dk_at dksX5_course_0 17 rfl rfl)
theorem dX5_course_18 : decode cX5_course 18 = .ok (.invokevirtual 98, 3) := dk_182 0 98 (dk_at dksX5_course_0 18 rfl rfl)
theorem dX5_course_21 : decode cX5_course 21 = .ok (.lstore_n 2, 1) := dk_65 (dk_at dksX5_course_0 21 rfl rfl)
theorem dX5_course_22 : decode cX5_course 22 = .ok (.lload_n 2, 1) := dk_32 (dk_at dksX5_course_0 22 rfl rfl)
theorem dX5_course_23 : decode cX5_course 23 = .ok (.lstore 4, 2) := dk_55 4 (dk_at dksX5_course_1 0 rfl rfl)
theorem dX5_course_25 : decode cX5_course 25 = .ok (.lload_n 2, 1) := dk_32 (dk_at dksX5_course_1 2 rfl rfl)
theorem dX5_course_26 : decode cX5_course 26 = .ok (.aload_n 0, 1) := dk_42 (dk_at dksX5_course_1 3 rfl rfl)
theorem dX5_course_27 : decode cX5_course 27 = .ok (.getfield 7, 3) := dk_180 0 7 (dk_at dksX5_course_1 4 rfl rfl)
theorem dX5_course_30 : decode cX5_course 30 = .ok (.iconst 2, 1) := dk_5 (dk_at dksX5_course_1 7 rfl rfl)
theorem dX5_course_31 : decode cX5_course 31 = .ok (.laload, 1) := dk_47 (dk_at dksX5_course_1 8 rfl rfl)
theorem dX5_course_32 : decode cX5_course 32 = .ok (.land, 1) := dk_127 (dk_at dksX5_course_1 9 rfl rfl)
theorem dX5_course_33 : decode cX5_course 33 = .ok (.lconst 0, 1) := dk_9 (dk_at dksX5_course_1 10 rfl rfl)
theorem dX5_course_34 : decode cX5_course 34 = .ok (.lcmp, 1) := dk_148 (dk_at dksX5_course_1 11 rfl rfl)
theorem dX5_course_35 : decode cX5_course 35 = .ok (.ifCond .eq 7, 3) := dk_153 0 7 (dk_at dksX5_course_1 12 rfl rfl)
theorem dX5_course_38 : decode cX5_course 38 = .ok (.iconst (-1), 1) := dk_2 (dk_at dksX5_course_1 15 rfl rfl)
theorem dX5_course_39 : decode cX5_course 39 = .ok (.goto 8, 3) := dk_167 0 8 (dk_at dksX5_course_1 16 rfl rfl)
theorem dX5_course_42 : decode cX5_course 42 = .ok (.aload_n 0, 1) := dk_42 (dk_at dksX5_course_1 19 rfl rfl)
theorem dX5_course_43 : decode cX5_course 43 = .ok (.lload_n 2, 1) := dk_32 (dk_at dksX5_course_1 20 rfl rfl)
theorem dX5_course_44 : decode cX5_course 44 = .ok (.invokevirtual 102, 3) := dk_182 0 102 (dk_at dksX5_course_1 21 rfl rfl)
theorem dX5_course_47 : decode cX5_course 47 = .ok (.istore 6, 2) := dk_54 6 (dk_at dksX5_course_2 0 rfl rfl)
theorem dX5_course_49 : decode cX5_course 49 = .ok (.iload 6, 2) := dk_21 6 (dk_at dksX5_course_2 2 rfl rfl)
theorem dX5_course_51 : decode cX5_course 51 = .ok (.iconst (-1), 1) := dk_2 (dk_at dksX5_course_2 4 rfl rfl)
theorem dX5_course_52 : decode cX5_course 52 = .ok (.if_icmp .eq 43, 3) := dk_159 0 43 (dk_at dksX5_course_2 5 rfl rfl)
theorem dX5_course_55 : decode cX5_course 55 = .ok (.aload_n 0, 1) := dk_42 (dk_at dksX5_course_2 8 rfl rfl)
theorem dX5_course_56 : decode cX5_course 56 = .ok (.iload 6, 2) := dk_21 6 (dk_at dksX5_course_2 9 rfl rfl)
theorem dX5_course_58 : decode cX5_course 58 = .ok (.invokevirtual 98, 3) := dk_182 0 98 (dk_at dksX5_course_2 11 rfl rfl)
theorem dX5_course_61 : decode cX5_course 61 = .ok (.lstore_n 2, 1) := dk_65 (dk_at dksX5_course_2 14 rfl rfl)
theorem dX5_course_62 : decode cX5_course 62 = .ok (.lload 4, 2) := dk_22 4 (dk_at dksX5_course_2 15 rfl rfl)
theorem dX5_course_64 : decode cX5_course 64 = .ok (.lload_n 2, 1) := dk_32 (dk_at dksX5_course_2 17 rfl rfl)
theorem dX5_course_65 : decode cX5_course 65 = .ok (.lor, 1) := dk_129 (dk_at dksX5_course_2 18 rfl rfl)
theorem dX5_course_66 : decode cX5_course 66 = .ok (.lstore 4, 2) := dk_55 4 (dk_at dksX5_course_2 19 rfl rfl)
theorem dX5_course_68 : decode cX5_course 68 = .ok (.lload_n 2, 1) := dk_32 (dk_at dksX5_course_2 21 rfl rfl)
theorem dX5_course_69 : decode cX5_course 69 = .ok (.aload_n 0, 1) := dk_42 (dk_at dksX5_course_2 22 rfl rfl)
theorem dX5_course_70 : decode cX5_course 70 = .ok (.getfield 7, 3) := dk_180 0 7 (dk_at dksX5_course_3 0 rfl rfl)
theorem dX5_course_73 : decode cX5_course 73 = .ok (.iconst 2, 1) := dk_5 (dk_at dksX5_course_3 3 rfl rfl)
theorem dX5_course_74 : decode cX5_course 74 = .ok (.laload, 1) := dk_47 (dk_at dksX5_course_3 4 rfl rfl)
theorem dX5_course_75 : decode cX5_course 75 = .ok (.land, 1) := dk_127 (dk_at dksX5_course_3 5 rfl rfl)
theorem dX5_course_76 : decode cX5_course 76 = .ok (.lconst 0, 1) := dk_9 (dk_at dksX5_course_3 6 rfl rfl)
theorem dX5_course_77 : decode cX5_course 77 = .ok (.lcmp, 1) := dk_148 (dk_at dksX5_course_3 7 rfl rfl)
theorem dX5_course_78 : decode cX5_course 78 = .ok (.ifCond .eq 7, 3) := dk_153 0 7 (dk_at dksX5_course_3 8 rfl rfl)
theorem dX5_course_81 : decode cX5_course 81 = .ok (.iconst (-1), 1) := dk_2 (dk_at dksX5_course_3 11 rfl rfl)
theorem dX5_course_82 : decode cX5_course 82 = .ok (.goto 8, 3) := dk_167 0 8 (dk_at dksX5_course_3 12 rfl rfl)
theorem dX5_course_85 : decode cX5_course 85 = .ok (.aload_n 0, 1) := dk_42 (dk_at dksX5_course_3 15 rfl rfl)
theorem dX5_course_86 : decode cX5_course 86 = .ok (.lload_n 2, 1) := dk_32 (dk_at dksX5_course_3 16 rfl rfl)
theorem dX5_course_87 : decode cX5_course 87 = .ok (.invokevirtual 102, 3) := dk_182 0 102 (dk_at dksX5_course_3 17 rfl rfl)
theorem dX5_course_90 : decode cX5_course 90 = .ok (.istore 6, 2) := dk_54 6 (dk_at dksX5_course_3 20 rfl rfl)
theorem dX5_course_92 : decode cX5_course 92 = .ok (.goto (-43), 3) := dk_167 255 213 (dk_at dksX5_course_4 0 rfl rfl)
theorem dX5_course_95 : decode cX5_course 95 = .ok (.lload 4, 2) := dk_22 4 (dk_at dksX5_course_4 3 rfl rfl)
theorem dX5_course_97 : decode cX5_course 97 = .ok (.lreturn, 1) := dk_173 (dk_at dksX5_course_4 5 rfl rfl)
abbrev cX5_amountFor : ByteArray := prog_13_method_74_code
def yX5_amountFor : MethodName := ⟨RX5, "amountFor", "(II)I"⟩
def dkwX5_amountFor_5 : List UInt8 := [21, 4, 172]
abbrev dktX5_amountFor_5 : List UInt8 := dkwX5_amountFor_5 ++ []
def dkwX5_amountFor_4 : List UInt8 := [21, 5, 167, 0, 5, 21, 4, 54, 4, 21, 6, 153, 0, 7, 29, 167, 0, 5, 21, 5, 62, 167, 255, 204]
abbrev dktX5_amountFor_4 : List UInt8 := dkwX5_amountFor_4 ++ dktX5_amountFor_5
def dkwX5_amountFor_3 : List UInt8 := [21, 4, 29, 96, 5, 108, 54, 5, 42, 27, 28, 21, 5, 182, 1, 23, 54, 6, 21, 6, 153, 0, 8]
abbrev dktX5_amountFor_3 : List UInt8 := dkwX5_amountFor_3 ++ dktX5_amountFor_4
def dkwX5_amountFor_2 : List UInt8 := [182, 1, 23, 154, 0, 5, 2, 172, 3, 62, 19, 1, 22, 54, 4, 21, 4, 29, 100, 4, 164, 0, 50]
abbrev dktX5_amountFor_2 : List UInt8 := dkwX5_amountFor_2 ++ dktX5_amountFor_3
def dkwX5_amountFor_1 : List UInt8 := [182, 0, 183, 154, 0, 5, 3, 172, 42, 28, 182, 0, 165, 153, 0, 5, 3, 172, 42, 27, 28, 19, 1, 22]
abbrev dktX5_amountFor_1 : List UInt8 := dkwX5_amountFor_1 ++ dktX5_amountFor_2
def dkwX5_amountFor_0 : List UInt8 := [42, 42, 27, 182, 0, 73, 153, 0, 15, 42, 28, 182, 0, 73, 153, 0, 7, 4, 167, 0, 4, 3, 4, 4]
abbrev dktX5_amountFor_0 : List UInt8 := dkwX5_amountFor_0 ++ dktX5_amountFor_1
theorem dksX5_amountFor_0 : cX5_amountFor.data.toList.drop 0 = dktX5_amountFor_0 := by decide +kernel
theorem dksX5_amountFor_1 : cX5_amountFor.data.toList.drop 24 = dktX5_amountFor_1 := dk_seg dksX5_amountFor_0 24 rfl rfl
theorem dksX5_amountFor_2 : cX5_amountFor.data.toList.drop 48 = dktX5_amountFor_2 := dk_seg dksX5_amountFor_1 24 rfl rfl
theorem dksX5_amountFor_3 : cX5_amountFor.data.toList.drop 71 = dktX5_amountFor_3 := dk_seg dksX5_amountFor_2 23 rfl rfl
theorem dksX5_amountFor_4 : cX5_amountFor.data.toList.drop 94 = dktX5_amountFor_4 := dk_seg dksX5_amountFor_3 23 rfl rfl
theorem dksX5_amountFor_5 : cX5_amountFor.data.toList.drop 118 = dktX5_amountFor_5 := dk_seg dksX5_amountFor_4 24 rfl rfl
theorem dX5_amountFor_0 : decode cX5_amountFor 0 = .ok (.aload_n 0, 1) := dk_42 (dk_at dksX5_amountFor_0 0 rfl rfl)
theorem dX5_amountFor_1 : decode cX5_amountFor 1 = .ok (.aload_n 0, 1) := dk_42 (dk_at dksX5_amountFor_0 1 rfl rfl)
theorem dX5_amountFor_2 : decode cX5_amountFor 2 = .ok (.iload_n 1, 1) := dk_27 (dk_at dksX5_amountFor_0 2 rfl rfl)
theorem dX5_amountFor_3 : decode cX5_amountFor 3 = .ok (.invokevirtual 73, 3) := dk_182 0 73 (dk_at dksX5_amountFor_0 3 rfl rfl)
theorem dX5_amountFor_6 : decode cX5_amountFor 6 = .ok (.ifCond .eq 15, 3) := dk_153 0 15 (dk_at dksX5_amountFor_0 6 rfl rfl)
theorem dX5_amountFor_9 : decode cX5_amountFor 9 = .ok (.aload_n 0, 1) := dk_42 (dk_at dksX5_amountFor_0 9 rfl rfl)
theorem dX5_amountFor_10 : decode cX5_amountFor 10 = .ok (.iload_n 2, 1) := dk_28 (dk_at dksX5_amountFor_0 10 rfl rfl)
theorem dX5_amountFor_11 : decode cX5_amountFor 11 = .ok (.invokevirtual 73, 3) := dk_182 0 73 (dk_at dksX5_amountFor_0 11 rfl rfl)
theorem dX5_amountFor_14 : decode cX5_amountFor 14 = .ok (.ifCond .eq 7, 3) := dk_153 0 7 (dk_at dksX5_amountFor_0 14 rfl rfl)
theorem dX5_amountFor_17 : decode cX5_amountFor 17 = .ok (.iconst 1, 1) := dk_4 (dk_at dksX5_amountFor_0 17 rfl rfl)
theorem dX5_amountFor_18 : decode cX5_amountFor 18 = .ok (.goto 4, 3) := dk_167 0 4 (dk_at dksX5_amountFor_0 18 rfl rfl)
theorem dX5_amountFor_21 : decode cX5_amountFor 21 = .ok (.iconst 0, 1) := dk_3 (dk_at dksX5_amountFor_0 21 rfl rfl)
theorem dX5_amountFor_22 : decode cX5_amountFor 22 = .ok (.iconst 1, 1) := dk_4 (dk_at dksX5_amountFor_0 22 rfl rfl)
theorem dX5_amountFor_23 : decode cX5_amountFor 23 = .ok (.iconst 1, 1) := dk_4 (dk_at dksX5_amountFor_0 23 rfl rfl)
theorem dX5_amountFor_24 : decode cX5_amountFor 24 = .ok (.invokevirtual 183, 3) := dk_182 0 183 (dk_at dksX5_amountFor_1 0 rfl rfl)
theorem dX5_amountFor_27 : decode cX5_amountFor 27 = .ok (.ifCond .ne 5, 3) := dk_154 0 5 (dk_at dksX5_amountFor_1 3 rfl rfl)
theorem dX5_amountFor_30 : decode cX5_amountFor 30 = .ok (.iconst 0, 1) := dk_3 (dk_at dksX5_amountFor_1 6 rfl rfl)
theorem dX5_amountFor_31 : decode cX5_amountFor 31 = .ok (.ireturn, 1) := dk_172 (dk_at dksX5_amountFor_1 7 rfl rfl)
theorem dX5_amountFor_32 : decode cX5_amountFor 32 = .ok (.aload_n 0, 1) := dk_42 (dk_at dksX5_amountFor_1 8 rfl rfl)
theorem dX5_amountFor_33 : decode cX5_amountFor 33 = .ok (.iload_n 2, 1) := dk_28 (dk_at dksX5_amountFor_1 9 rfl rfl)
theorem dX5_amountFor_34 : decode cX5_amountFor 34 = .ok (.invokevirtual 165, 3) := dk_182 0 165 (dk_at dksX5_amountFor_1 10 rfl rfl)
theorem dX5_amountFor_37 : decode cX5_amountFor 37 = .ok (.ifCond .eq 5, 3) := dk_153 0 5 (dk_at dksX5_amountFor_1 13 rfl rfl)
theorem dX5_amountFor_40 : decode cX5_amountFor 40 = .ok (.iconst 0, 1) := dk_3 (dk_at dksX5_amountFor_1 16 rfl rfl)
theorem dX5_amountFor_41 : decode cX5_amountFor 41 = .ok (.ireturn, 1) := dk_172 (dk_at dksX5_amountFor_1 17 rfl rfl)
theorem dX5_amountFor_42 : decode cX5_amountFor 42 = .ok (.aload_n 0, 1) := dk_42 (dk_at dksX5_amountFor_1 18 rfl rfl)
theorem dX5_amountFor_43 : decode cX5_amountFor 43 = .ok (.iload_n 1, 1) := dk_27 (dk_at dksX5_amountFor_1 19 rfl rfl)
theorem dX5_amountFor_44 : decode cX5_amountFor 44 = .ok (.iload_n 2, 1) := dk_28 (dk_at dksX5_amountFor_1 20 rfl rfl)
theorem dX5_amountFor_45 : decode cX5_amountFor 45 = .ok (.ldc_w 278, 3) := dk_19 1 22 (dk_at dksX5_amountFor_1 21 rfl rfl)
theorem dX5_amountFor_48 : decode cX5_amountFor 48 = .ok (.invokevirtual 279, 3) := dk_182 1 23 (dk_at dksX5_amountFor_2 0 rfl rfl)
theorem dX5_amountFor_51 : decode cX5_amountFor 51 = .ok (.ifCond .ne 5, 3) := dk_154 0 5 (dk_at dksX5_amountFor_2 3 rfl rfl)
theorem dX5_amountFor_54 : decode cX5_amountFor 54 = .ok (.iconst (-1), 1) := dk_2 (dk_at dksX5_amountFor_2 6 rfl rfl)
theorem dX5_amountFor_55 : decode cX5_amountFor 55 = .ok (.ireturn, 1) := dk_172 (dk_at dksX5_amountFor_2 7 rfl rfl)
theorem dX5_amountFor_56 : decode cX5_amountFor 56 = .ok (.iconst 0, 1) := dk_3 (dk_at dksX5_amountFor_2 8 rfl rfl)
theorem dX5_amountFor_57 : decode cX5_amountFor 57 = .ok (.istore_n 3, 1) := dk_62 (dk_at dksX5_amountFor_2 9 rfl rfl)
theorem dX5_amountFor_58 : decode cX5_amountFor 58 = .ok (.ldc_w 278, 3) := dk_19 1 22 (dk_at dksX5_amountFor_2 10 rfl rfl)
theorem dX5_amountFor_61 : decode cX5_amountFor 61 = .ok (.istore 4, 2) := dk_54 4 (dk_at dksX5_amountFor_2 13 rfl rfl)
theorem dX5_amountFor_63 : decode cX5_amountFor 63 = .ok (.iload 4, 2) := dk_21 4 (dk_at dksX5_amountFor_2 15 rfl rfl)
theorem dX5_amountFor_65 : decode cX5_amountFor 65 = .ok (.iload_n 3, 1) := dk_29 (dk_at dksX5_amountFor_2 17 rfl rfl)
theorem dX5_amountFor_66 : decode cX5_amountFor 66 = .ok (.isub, 1) := dk_100 (dk_at dksX5_amountFor_2 18 rfl rfl)
theorem dX5_amountFor_67 : decode cX5_amountFor 67 = .ok (.iconst 1, 1) := dk_4 (dk_at dksX5_amountFor_2 19 rfl rfl)
theorem dX5_amountFor_68 : decode cX5_amountFor 68 = .ok (.if_icmp .le 50, 3) := dk_164 0 50 (dk_at dksX5_amountFor_2 20 rfl rfl)
theorem dX5_amountFor_71 : decode cX5_amountFor 71 = .ok (.iload 4, 2) := dk_21 4 (dk_at dksX5_amountFor_3 0 rfl rfl)
theorem dX5_amountFor_73 : decode cX5_amountFor 73 = .ok (.iload_n 3, 1) := dk_29 (dk_at dksX5_amountFor_3 2 rfl rfl)
theorem dX5_amountFor_74 : decode cX5_amountFor 74 = .ok (.iadd, 1) := dk_96 (dk_at dksX5_amountFor_3 3 rfl rfl)
theorem dX5_amountFor_75 : decode cX5_amountFor 75 = .ok (.iconst 2, 1) := dk_5 (dk_at dksX5_amountFor_3 4 rfl rfl)
theorem dX5_amountFor_76 : decode cX5_amountFor 76 = .ok (.idiv, 1) := dk_108 (dk_at dksX5_amountFor_3 5 rfl rfl)
theorem dX5_amountFor_77 : decode cX5_amountFor 77 = .ok (.istore 5, 2) := dk_54 5 (dk_at dksX5_amountFor_3 6 rfl rfl)
theorem dX5_amountFor_79 : decode cX5_amountFor 79 = .ok (.aload_n 0, 1) := dk_42 (dk_at dksX5_amountFor_3 8 rfl rfl)
theorem dX5_amountFor_80 : decode cX5_amountFor 80 = .ok (.iload_n 1, 1) := dk_27 (dk_at dksX5_amountFor_3 9 rfl rfl)
theorem dX5_amountFor_81 : decode cX5_amountFor 81 = .ok (.iload_n 2, 1) := dk_28 (dk_at dksX5_amountFor_3 10 rfl rfl)
theorem dX5_amountFor_82 : decode cX5_amountFor 82 = .ok (.iload 5, 2) := dk_21 5 (dk_at dksX5_amountFor_3 11 rfl rfl)
theorem dX5_amountFor_84 : decode cX5_amountFor 84 = .ok (.invokevirtual 279, 3) := dk_182 1 23 (dk_at dksX5_amountFor_3 13 rfl rfl)
theorem dX5_amountFor_87 : decode cX5_amountFor 87 = .ok (.istore 6, 2) := dk_54 6 (dk_at dksX5_amountFor_3 16 rfl rfl)
theorem dX5_amountFor_89 : decode cX5_amountFor 89 = .ok (.iload 6, 2) := dk_21 6 (dk_at dksX5_amountFor_3 18 rfl rfl)
theorem dX5_amountFor_91 : decode cX5_amountFor 91 = .ok (.ifCond .eq 8, 3) := dk_153 0 8 (dk_at dksX5_amountFor_3 20 rfl rfl)
theorem dX5_amountFor_94 : decode cX5_amountFor 94 = .ok (.iload 5, 2) := dk_21 5 (dk_at dksX5_amountFor_4 0 rfl rfl)
theorem dX5_amountFor_96 : decode cX5_amountFor 96 = .ok (.goto 5, 3) := dk_167 0 5 (dk_at dksX5_amountFor_4 2 rfl rfl)
theorem dX5_amountFor_99 : decode cX5_amountFor 99 = .ok (.iload 4, 2) := dk_21 4 (dk_at dksX5_amountFor_4 5 rfl rfl)
theorem dX5_amountFor_101 : decode cX5_amountFor 101 = .ok (.istore 4, 2) := dk_54 4 (dk_at dksX5_amountFor_4 7 rfl rfl)
theorem dX5_amountFor_103 : decode cX5_amountFor 103 = .ok (.iload 6, 2) := dk_21 6 (dk_at dksX5_amountFor_4 9 rfl rfl)
theorem dX5_amountFor_105 : decode cX5_amountFor 105 = .ok (.ifCond .eq 7, 3) := dk_153 0 7 (dk_at dksX5_amountFor_4 11 rfl rfl)
theorem dX5_amountFor_108 : decode cX5_amountFor 108 = .ok (.iload_n 3, 1) := dk_29 (dk_at dksX5_amountFor_4 14 rfl rfl)
theorem dX5_amountFor_109 : decode cX5_amountFor 109 = .ok (.goto 5, 3) := dk_167 0 5 (dk_at dksX5_amountFor_4 15 rfl rfl)
theorem dX5_amountFor_112 : decode cX5_amountFor 112 = .ok (.iload 5, 2) := dk_21 5 (dk_at dksX5_amountFor_4 18 rfl rfl)
theorem dX5_amountFor_114 : decode cX5_amountFor 114 = .ok (.istore_n 3, 1) := dk_62 (dk_at dksX5_amountFor_4 20 rfl rfl)
theorem dX5_amountFor_115 : decode cX5_amountFor 115 = .ok (.goto (-52), 3) := dk_167 255 204 (dk_at dksX5_amountFor_4 21 rfl rfl)
theorem dX5_amountFor_118 : decode cX5_amountFor 118 = .ok (.iload 4, 2) := dk_21 4 (dk_at dksX5_amountFor_5 0 rfl rfl)
theorem dX5_amountFor_120 : decode cX5_amountFor 120 = .ok (.ireturn, 1) := dk_172 (dk_at dksX5_amountFor_5 2 rfl rfl)
abbrev cX5_wets : ByteArray := prog_13_method_73_code
def yX5_wets : MethodName := ⟨RX5, "wets", "(III)Z"⟩
def dkwX5_wets_1 : List UInt8 := [172]
abbrev dktX5_wets_1 : List UInt8 := dkwX5_wets_1 ++ []
def dkwX5_wets_0 : List UInt8 := [42, 182, 1, 16, 42, 27, 29, 133, 182, 0, 177, 42, 28, 182, 0, 165, 54, 4, 42, 182, 1, 19, 21, 4]
abbrev dktX5_wets_0 : List UInt8 := dkwX5_wets_0 ++ dktX5_wets_1
theorem dksX5_wets_0 : cX5_wets.data.toList.drop 0 = dktX5_wets_0 := by decide +kernel
theorem dksX5_wets_1 : cX5_wets.data.toList.drop 24 = dktX5_wets_1 := dk_seg dksX5_wets_0 24 rfl rfl
theorem dX5_wets_0 : decode cX5_wets 0 = .ok (.aload_n 0, 1) := dk_42 (dk_at dksX5_wets_0 0 rfl rfl)
theorem dX5_wets_1 : decode cX5_wets 1 = .ok (.invokevirtual 272, 3) := dk_182 1 16 (dk_at dksX5_wets_0 1 rfl rfl)
theorem dX5_wets_4 : decode cX5_wets 4 = .ok (.aload_n 0, 1) := dk_42 (dk_at dksX5_wets_0 4 rfl rfl)
theorem dX5_wets_5 : decode cX5_wets 5 = .ok (.iload_n 1, 1) := dk_27 (dk_at dksX5_wets_0 5 rfl rfl)
theorem dX5_wets_6 : decode cX5_wets 6 = .ok (.iload_n 3, 1) := dk_29 (dk_at dksX5_wets_0 6 rfl rfl)
theorem dX5_wets_7 : decode cX5_wets 7 = .ok (.i2l, 1) := dk_133 (dk_at dksX5_wets_0 7 rfl rfl)
theorem dX5_wets_8 : decode cX5_wets 8 = .ok (.invokevirtual 177, 3) := dk_182 0 177 (dk_at dksX5_wets_0 8 rfl rfl)
theorem dX5_wets_11 : decode cX5_wets 11 = .ok (.aload_n 0, 1) := dk_42 (dk_at dksX5_wets_0 11 rfl rfl)
theorem dX5_wets_12 : decode cX5_wets 12 = .ok (.iload_n 2, 1) := dk_28 (dk_at dksX5_wets_0 12 rfl rfl)
theorem dX5_wets_13 : decode cX5_wets 13 = .ok (.invokevirtual 165, 3) := dk_182 0 165 (dk_at dksX5_wets_0 13 rfl rfl)
theorem dX5_wets_16 : decode cX5_wets 16 = .ok (.istore 4, 2) := dk_54 4 (dk_at dksX5_wets_0 16 rfl rfl)
theorem dX5_wets_18 : decode cX5_wets 18 = .ok (.aload_n 0, 1) := dk_42 (dk_at dksX5_wets_0 18 rfl rfl)
theorem dX5_wets_19 : decode cX5_wets 19 = .ok (.invokevirtual 275, 3) := dk_182 1 19 (dk_at dksX5_wets_0 19 rfl rfl)
theorem dX5_wets_22 : decode cX5_wets 22 = .ok (.iload 4, 2) := dk_21 4 (dk_at dksX5_wets_0 22 rfl rfl)
theorem dX5_wets_24 : decode cX5_wets 24 = .ok (.ireturn, 1) := dk_172 (dk_at dksX5_wets_1 0 rfl rfl)
abbrev cX5_lays : ByteArray := prog_13_method_6_code
def yX5_lays : MethodName := ⟨RX5, "lays", "()V"⟩
def dkwX5_lays_1 : List UInt8 := [167, 255, 234, 177]
abbrev dktX5_lays_1 : List UInt8 := dkwX5_lays_1 ++ []
def dkwX5_lays_0 : List UInt8 := [3, 60, 27, 17, 2, 1, 162, 0, 21, 42, 180, 0, 16, 27, 42, 180, 0, 7, 27, 47, 80, 132, 1, 1]
abbrev dktX5_lays_0 : List UInt8 := dkwX5_lays_0 ++ dktX5_lays_1
theorem dksX5_lays_0 : cX5_lays.data.toList.drop 0 = dktX5_lays_0 := by decide +kernel
theorem dksX5_lays_1 : cX5_lays.data.toList.drop 24 = dktX5_lays_1 := dk_seg dksX5_lays_0 24 rfl rfl
theorem dX5_lays_0 : decode cX5_lays 0 = .ok (.iconst 0, 1) := dk_3 (dk_at dksX5_lays_0 0 rfl rfl)
theorem dX5_lays_1 : decode cX5_lays 1 = .ok (.istore_n 1, 1) := dk_60 (dk_at dksX5_lays_0 1 rfl rfl)
theorem dX5_lays_2 : decode cX5_lays 2 = .ok (.iload_n 1, 1) := dk_27 (dk_at dksX5_lays_0 2 rfl rfl)
theorem dX5_lays_3 : decode cX5_lays 3 = .ok (.sipush 513, 3) := dk_17 2 1 (dk_at dksX5_lays_0 3 rfl rfl)
theorem dX5_lays_6 : decode cX5_lays 6 = .ok (.if_icmp .ge 21, 3) := dk_162 0 21 (dk_at dksX5_lays_0 6 rfl rfl)
theorem dX5_lays_9 : decode cX5_lays 9 = .ok (.aload_n 0, 1) := dk_42 (dk_at dksX5_lays_0 9 rfl rfl)
theorem dX5_lays_10 : decode cX5_lays 10 = .ok (.getfield 16, 3) := dk_180 0 16 (dk_at dksX5_lays_0 10 rfl rfl)
theorem dX5_lays_13 : decode cX5_lays 13 = .ok (.iload_n 1, 1) := dk_27 (dk_at dksX5_lays_0 13 rfl rfl)
theorem dX5_lays_14 : decode cX5_lays 14 = .ok (.aload_n 0, 1) := dk_42 (dk_at dksX5_lays_0 14 rfl rfl)
theorem dX5_lays_15 : decode cX5_lays 15 = .ok (.getfield 7, 3) := dk_180 0 7 (dk_at dksX5_lays_0 15 rfl rfl)
theorem dX5_lays_18 : decode cX5_lays 18 = .ok (.iload_n 1, 1) := dk_27 (dk_at dksX5_lays_0 18 rfl rfl)
theorem dX5_lays_19 : decode cX5_lays 19 = .ok (.laload, 1) := dk_47 (dk_at dksX5_lays_0 19 rfl rfl)
theorem dX5_lays_20 : decode cX5_lays 20 = .ok (.lastore, 1) := dk_80 (dk_at dksX5_lays_0 20 rfl rfl)
theorem dX5_lays_21 : decode cX5_lays 21 = .ok (.iinc 1 1, 3) := dk_132 1 1 (dk_at dksX5_lays_0 21 rfl rfl)
theorem dX5_lays_24 : decode cX5_lays 24 = .ok (.goto (-22), 3) := dk_167 255 234 (dk_at dksX5_lays_1 0 rfl rfl)
theorem dX5_lays_27 : decode cX5_lays 27 = .ok (.return_, 1) := dk_177 (dk_at dksX5_lays_1 3 rfl rfl)
abbrev cX5_takesBack : ByteArray := prog_13_method_7_code
def yX5_takesBack : MethodName := ⟨RX5, "takesBack", "()V"⟩
def dkwX5_takesBack_1 : List UInt8 := [167, 255, 234, 177]
abbrev dktX5_takesBack_1 : List UInt8 := dkwX5_takesBack_1 ++ []
def dkwX5_takesBack_0 : List UInt8 := [3, 60, 27, 17, 2, 1, 162, 0, 21, 42, 180, 0, 7, 27, 42, 180, 0, 16, 27, 47, 80, 132, 1, 1]
abbrev dktX5_takesBack_0 : List UInt8 := dkwX5_takesBack_0 ++ dktX5_takesBack_1
theorem dksX5_takesBack_0 : cX5_takesBack.data.toList.drop 0 = dktX5_takesBack_0 := by decide +kernel
theorem dksX5_takesBack_1 : cX5_takesBack.data.toList.drop 24 = dktX5_takesBack_1 := dk_seg dksX5_takesBack_0 24 rfl rfl
theorem dX5_takesBack_0 : decode cX5_takesBack 0 = .ok (.iconst 0, 1) := dk_3 (dk_at dksX5_takesBack_0 0 rfl rfl)
theorem dX5_takesBack_1 : decode cX5_takesBack 1 = .ok (.istore_n 1, 1) := dk_60 (dk_at dksX5_takesBack_0 1 rfl rfl)
theorem dX5_takesBack_2 : decode cX5_takesBack 2 = .ok (.iload_n 1, 1) := dk_27 (dk_at dksX5_takesBack_0 2 rfl rfl)
theorem dX5_takesBack_3 : decode cX5_takesBack 3 = .ok (.sipush 513, 3) := dk_17 2 1 (dk_at dksX5_takesBack_0 3 rfl rfl)
theorem dX5_takesBack_6 : decode cX5_takesBack 6 = .ok (.if_icmp .ge 21, 3) := dk_162 0 21 (dk_at dksX5_takesBack_0 6 rfl rfl)
theorem dX5_takesBack_9 : decode cX5_takesBack 9 = .ok (.aload_n 0, 1) := dk_42 (dk_at dksX5_takesBack_0 9 rfl rfl)
theorem dX5_takesBack_10 : decode cX5_takesBack 10 = .ok (.getfield 7, 3) := dk_180 0 7 (dk_at dksX5_takesBack_0 10 rfl rfl)
theorem dX5_takesBack_13 : decode cX5_takesBack 13 = .ok (.iload_n 1, 1) := dk_27 (dk_at dksX5_takesBack_0 13 rfl rfl)
theorem dX5_takesBack_14 : decode cX5_takesBack 14 = .ok (.aload_n 0, 1) := dk_42 (dk_at dksX5_takesBack_0 14 rfl rfl)
theorem dX5_takesBack_15 : decode cX5_takesBack 15 = .ok (.getfield 16, 3) := dk_180 0 16 (dk_at dksX5_takesBack_0 15 rfl rfl)
theorem dX5_takesBack_18 : decode cX5_takesBack 18 = .ok (.iload_n 1, 1) := dk_27 (dk_at dksX5_takesBack_0 18 rfl rfl)
theorem dX5_takesBack_19 : decode cX5_takesBack 19 = .ok (.laload, 1) := dk_47 (dk_at dksX5_takesBack_0 19 rfl rfl)
theorem dX5_takesBack_20 : decode cX5_takesBack 20 = .ok (.lastore, 1) := dk_80 (dk_at dksX5_takesBack_0 20 rfl rfl)
theorem dX5_takesBack_21 : decode cX5_takesBack 21 = .ok (.iinc 1 1, 3) := dk_132 1 1 (dk_at dksX5_takesBack_0 21 rfl rfl)
theorem dX5_takesBack_24 : decode cX5_takesBack 24 = .ok (.goto (-22), 3) := dk_167 255 234 (dk_at dksX5_takesBack_1 0 rfl rfl)
theorem dX5_takesBack_27 : decode cX5_takesBack 27 = .ok (.return_, 1) := dk_177 (dk_at dksX5_takesBack_1 3 rfl rfl)
abbrev cX5_rainToJoin : ByteArray := prog_13_method_76_code
def yX5_rainToJoin : MethodName := ⟨RX5, "rainToJoin", "()I"⟩
def dkwX5_rainToJoin_1 : List UInt8 := [182, 1, 27, 27, 162, 0, 5, 28, 172, 132, 2, 1, 167, 255, 236, 2, 172]
abbrev dktX5_rainToJoin_1 : List UInt8 := dkwX5_rainToJoin_1 ++ []
def dkwX5_rainToJoin_0 : List UInt8 := [42, 3, 181, 0, 54, 42, 182, 0, 152, 42, 180, 0, 149, 60, 4, 61, 28, 16, 40, 163, 0, 20, 42, 28]
abbrev dktX5_rainToJoin_0 : List UInt8 := dkwX5_rainToJoin_0 ++ dktX5_rainToJoin_1
theorem dksX5_rainToJoin_0 : cX5_rainToJoin.data.toList.drop 0 = dktX5_rainToJoin_0 := by decide +kernel
theorem dksX5_rainToJoin_1 : cX5_rainToJoin.data.toList.drop 24 = dktX5_rainToJoin_1 := dk_seg dksX5_rainToJoin_0 24 rfl rfl
theorem dX5_rainToJoin_0 : decode cX5_rainToJoin 0 = .ok (.aload_n 0, 1) := dk_42 (dk_at dksX5_rainToJoin_0 0 rfl rfl)
theorem dX5_rainToJoin_1 : decode cX5_rainToJoin 1 = .ok (.iconst 0, 1) := dk_3 (dk_at dksX5_rainToJoin_0 1 rfl rfl)
theorem dX5_rainToJoin_2 : decode cX5_rainToJoin 2 = .ok (.putfield 54, 3) := dk_181 0 54 (dk_at dksX5_rainToJoin_0 2 rfl rfl)
theorem dX5_rainToJoin_5 : decode cX5_rainToJoin 5 = .ok (.aload_n 0, 1) := dk_42 (dk_at dksX5_rainToJoin_0 5 rfl rfl)
theorem dX5_rainToJoin_6 : decode cX5_rainToJoin 6 = .ok (.invokevirtual 152, 3) := dk_182 0 152 (dk_at dksX5_rainToJoin_0 6 rfl rfl)
theorem dX5_rainToJoin_9 : decode cX5_rainToJoin 9 = .ok (.aload_n 0, 1) := dk_42 (dk_at dksX5_rainToJoin_0 9 rfl rfl)
theorem dX5_rainToJoin_10 : decode cX5_rainToJoin 10 = .ok (.getfield 149, 3) := dk_180 0 149 (dk_at dksX5_rainToJoin_0 10 rfl rfl)
theorem dX5_rainToJoin_13 : decode cX5_rainToJoin 13 = .ok (.istore_n 1, 1) := dk_60 (dk_at dksX5_rainToJoin_0 13 rfl rfl)
theorem dX5_rainToJoin_14 : decode cX5_rainToJoin 14 = .ok (.iconst 1, 1) := dk_4 (dk_at dksX5_rainToJoin_0 14 rfl rfl)
theorem dX5_rainToJoin_15 : decode cX5_rainToJoin 15 = .ok (.istore_n 2, 1) := dk_61 (dk_at dksX5_rainToJoin_0 15 rfl rfl)
theorem dX5_rainToJoin_16 : decode cX5_rainToJoin 16 = .ok (.iload_n 2, 1) := dk_28 (dk_at dksX5_rainToJoin_0 16 rfl rfl)
theorem dX5_rainToJoin_17 : decode cX5_rainToJoin 17 = .ok (.bipush 40, 2) := dk_16 40 (dk_at dksX5_rainToJoin_0 17 rfl rfl)
theorem dX5_rainToJoin_19 : decode cX5_rainToJoin 19 = .ok (.if_icmp .gt 20, 3) := dk_163 0 20 (dk_at dksX5_rainToJoin_0 19 rfl rfl)
theorem dX5_rainToJoin_22 : decode cX5_rainToJoin 22 = .ok (.aload_n 0, 1) := dk_42 (dk_at dksX5_rainToJoin_0 22 rfl rfl)
theorem dX5_rainToJoin_23 : decode cX5_rainToJoin 23 = .ok (.iload_n 2, 1) := dk_28 (dk_at dksX5_rainToJoin_0 23 rfl rfl)
theorem dX5_rainToJoin_24 : decode cX5_rainToJoin 24 = .ok (.invokevirtual 283, 3) := dk_182 1 27 (dk_at dksX5_rainToJoin_1 0 rfl rfl)
theorem dX5_rainToJoin_27 : decode cX5_rainToJoin 27 = .ok (.iload_n 1, 1) := dk_27 (dk_at dksX5_rainToJoin_1 3 rfl rfl)
theorem dX5_rainToJoin_28 : decode cX5_rainToJoin 28 = .ok (.if_icmp .ge 5, 3) := dk_162 0 5 (dk_at dksX5_rainToJoin_1 4 rfl rfl)
theorem dX5_rainToJoin_31 : decode cX5_rainToJoin 31 = .ok (.iload_n 2, 1) := dk_28 (dk_at dksX5_rainToJoin_1 7 rfl rfl)
theorem dX5_rainToJoin_32 : decode cX5_rainToJoin 32 = .ok (.ireturn, 1) := dk_172 (dk_at dksX5_rainToJoin_1 8 rfl rfl)
theorem dX5_rainToJoin_33 : decode cX5_rainToJoin 33 = .ok (.iinc 2 1, 3) := dk_132 2 1 (dk_at dksX5_rainToJoin_1 9 rfl rfl)
theorem dX5_rainToJoin_36 : decode cX5_rainToJoin 36 = .ok (.goto (-20), 3) := dk_167 255 236 (dk_at dksX5_rainToJoin_1 12 rfl rfl)
theorem dX5_rainToJoin_39 : decode cX5_rainToJoin 39 = .ok (.iconst (-1), 1) := dk_2 (dk_at dksX5_rainToJoin_1 15 rfl rfl)
theorem dX5_rainToJoin_40 : decode cX5_rainToJoin 40 = .ok (.ireturn, 1) := dk_172 (dk_at dksX5_rainToJoin_1 16 rfl rfl)
abbrev cX5_lakesAfter : ByteArray := prog_13_method_75_code
def yX5_lakesAfter : MethodName := ⟨RX5, "lakesAfter", "(I)I"⟩
def dkwX5_lakesAfter_1 : List UInt8 := [167, 255, 238, 42, 182, 0, 152, 42, 180, 0, 149, 61, 42, 182, 1, 19, 28, 172]
abbrev dktX5_lakesAfter_1 : List UInt8 := dkwX5_lakesAfter_1 ++ []
def dkwX5_lakesAfter_0 : List UInt8 := [42, 182, 1, 16, 3, 61, 28, 42, 182, 0, 61, 162, 0, 16, 42, 28, 27, 133, 182, 0, 177, 132, 2, 1]
abbrev dktX5_lakesAfter_0 : List UInt8 := dkwX5_lakesAfter_0 ++ dktX5_lakesAfter_1
theorem dksX5_lakesAfter_0 : cX5_lakesAfter.data.toList.drop 0 = dktX5_lakesAfter_0 := by decide +kernel
theorem dksX5_lakesAfter_1 : cX5_lakesAfter.data.toList.drop 24 = dktX5_lakesAfter_1 := dk_seg dksX5_lakesAfter_0 24 rfl rfl
theorem dX5_lakesAfter_0 : decode cX5_lakesAfter 0 = .ok (.aload_n 0, 1) := dk_42 (dk_at dksX5_lakesAfter_0 0 rfl rfl)
theorem dX5_lakesAfter_1 : decode cX5_lakesAfter 1 = .ok (.invokevirtual 272, 3) := dk_182 1 16 (dk_at dksX5_lakesAfter_0 1 rfl rfl)
theorem dX5_lakesAfter_4 : decode cX5_lakesAfter 4 = .ok (.iconst 0, 1) := dk_3 (dk_at dksX5_lakesAfter_0 4 rfl rfl)
theorem dX5_lakesAfter_5 : decode cX5_lakesAfter 5 = .ok (.istore_n 2, 1) := dk_61 (dk_at dksX5_lakesAfter_0 5 rfl rfl)
theorem dX5_lakesAfter_6 : decode cX5_lakesAfter 6 = .ok (.iload_n 2, 1) := dk_28 (dk_at dksX5_lakesAfter_0 6 rfl rfl)
theorem dX5_lakesAfter_7 : decode cX5_lakesAfter 7 = .ok (.aload_n 0, 1) := dk_42 (dk_at dksX5_lakesAfter_0 7 rfl rfl)
theorem dX5_lakesAfter_8 : decode cX5_lakesAfter 8 = .ok (.invokevirtual 61, 3) := dk_182 0 61 (dk_at dksX5_lakesAfter_0 8 rfl rfl)
theorem dX5_lakesAfter_11 : decode cX5_lakesAfter 11 = .ok (.if_icmp .ge 16, 3) := dk_162 0 16 (dk_at dksX5_lakesAfter_0 11 rfl rfl)
theorem dX5_lakesAfter_14 : decode cX5_lakesAfter 14 = .ok (.aload_n 0, 1) := dk_42 (dk_at dksX5_lakesAfter_0 14 rfl rfl)
theorem dX5_lakesAfter_15 : decode cX5_lakesAfter 15 = .ok (.iload_n 2, 1) := dk_28 (dk_at dksX5_lakesAfter_0 15 rfl rfl)
theorem dX5_lakesAfter_16 : decode cX5_lakesAfter 16 = .ok (.iload_n 1, 1) := dk_27 (dk_at dksX5_lakesAfter_0 16 rfl rfl)
theorem dX5_lakesAfter_17 : decode cX5_lakesAfter 17 = .ok (.i2l, 1) := dk_133 (dk_at dksX5_lakesAfter_0 17 rfl rfl)
theorem dX5_lakesAfter_18 : decode cX5_lakesAfter 18 = .ok (.invokevirtual 177, 3) := dk_182 0 177 (dk_at dksX5_lakesAfter_0 18 rfl rfl)
theorem dX5_lakesAfter_21 : decode cX5_lakesAfter 21 = .ok (.iinc 2 1, 3) := dk_132 2 1 (dk_at dksX5_lakesAfter_0 21 rfl rfl)
theorem dX5_lakesAfter_24 : decode cX5_lakesAfter 24 = .ok (.goto (-18), 3) := dk_167 255 238 (dk_at dksX5_lakesAfter_1 0 rfl rfl)
theorem dX5_lakesAfter_27 : decode cX5_lakesAfter 27 = .ok (.aload_n 0, 1) := dk_42 (dk_at dksX5_lakesAfter_1 3 rfl rfl)
theorem dX5_lakesAfter_28 : decode cX5_lakesAfter 28 = .ok (.invokevirtual 152, 3) := dk_182 0 152 (dk_at dksX5_lakesAfter_1 4 rfl rfl)
theorem dX5_lakesAfter_31 : decode cX5_lakesAfter 31 = .ok (.aload_n 0, 1) := dk_42 (dk_at dksX5_lakesAfter_1 7 rfl rfl)
theorem dX5_lakesAfter_32 : decode cX5_lakesAfter 32 = .ok (.getfield 149, 3) := dk_180 0 149 (dk_at dksX5_lakesAfter_1 8 rfl rfl)
theorem dX5_lakesAfter_35 : decode cX5_lakesAfter 35 = .ok (.istore_n 2, 1) := dk_61 (dk_at dksX5_lakesAfter_1 11 rfl rfl)
theorem dX5_lakesAfter_36 : decode cX5_lakesAfter 36 = .ok (.aload_n 0, 1) := dk_42 (dk_at dksX5_lakesAfter_1 12 rfl rfl)
theorem dX5_lakesAfter_37 : decode cX5_lakesAfter 37 = .ok (.invokevirtual 275, 3) := dk_182 1 19 (dk_at dksX5_lakesAfter_1 13 rfl rfl)
theorem dX5_lakesAfter_40 : decode cX5_lakesAfter 40 = .ok (.iload_n 2, 1) := dk_28 (dk_at dksX5_lakesAfter_1 16 rfl rfl)
theorem dX5_lakesAfter_41 : decode cX5_lakesAfter 41 = .ok (.ireturn, 1) := dk_172 (dk_at dksX5_lakesAfter_1 17 rfl rfl)
abbrev cX5_withoutGate : ByteArray := prog_13_method_77_code
def yX5_withoutGate : MethodName := ⟨RX5, "withoutGate", "(II)I"⟩
def dkwX5_withoutGate_2 : List UInt8 := [182, 0, 195, 42, 182, 0, 219, 54, 4, 42, 182, 1, 19, 21, 4, 29, 100, 172]
abbrev dktX5_withoutGate_2 : List UInt8 := dkwX5_withoutGate_2 ++ []
def dkwX5_withoutGate_1 : List UInt8 := [182, 1, 16, 42, 182, 0, 192, 42, 180, 0, 7, 42, 27, 28, 182, 0, 81, 20, 0, 109, 80, 42]
abbrev dktX5_withoutGate_1 : List UInt8 := dkwX5_withoutGate_1 ++ dktX5_withoutGate_2
def dkwX5_withoutGate_0 : List UInt8 := [42, 42, 27, 28, 182, 0, 198, 4, 4, 182, 0, 183, 154, 0, 5, 3, 172, 42, 182, 0, 219, 62, 42]
abbrev dktX5_withoutGate_0 : List UInt8 := dkwX5_withoutGate_0 ++ dktX5_withoutGate_1
theorem dksX5_withoutGate_0 : cX5_withoutGate.data.toList.drop 0 = dktX5_withoutGate_0 := by decide +kernel
theorem dksX5_withoutGate_1 : cX5_withoutGate.data.toList.drop 23 = dktX5_withoutGate_1 := dk_seg dksX5_withoutGate_0 23 rfl rfl
theorem dksX5_withoutGate_2 : cX5_withoutGate.data.toList.drop 45 = dktX5_withoutGate_2 := dk_seg dksX5_withoutGate_1 22 rfl rfl
theorem dX5_withoutGate_0 : decode cX5_withoutGate 0 = .ok (.aload_n 0, 1) := dk_42 (dk_at dksX5_withoutGate_0 0 rfl rfl)
theorem dX5_withoutGate_1 : decode cX5_withoutGate 1 = .ok (.aload_n 0, 1) := dk_42 (dk_at dksX5_withoutGate_0 1 rfl rfl)
theorem dX5_withoutGate_2 : decode cX5_withoutGate 2 = .ok (.iload_n 1, 1) := dk_27 (dk_at dksX5_withoutGate_0 2 rfl rfl)
theorem dX5_withoutGate_3 : decode cX5_withoutGate 3 = .ok (.iload_n 2, 1) := dk_28 (dk_at dksX5_withoutGate_0 3 rfl rfl)
theorem dX5_withoutGate_4 : decode cX5_withoutGate 4 = .ok (.invokevirtual 198, 3) := dk_182 0 198 (dk_at dksX5_withoutGate_0 4 rfl rfl)
theorem dX5_withoutGate_7 : decode cX5_withoutGate 7 = .ok (.iconst 1, 1) := dk_4 (dk_at dksX5_withoutGate_0 7 rfl rfl)
theorem dX5_withoutGate_8 : decode cX5_withoutGate 8 = .ok (.iconst 1, 1) := dk_4 (dk_at dksX5_withoutGate_0 8 rfl rfl)
theorem dX5_withoutGate_9 : decode cX5_withoutGate 9 = .ok (.invokevirtual 183, 3) := dk_182 0 183 (dk_at dksX5_withoutGate_0 9 rfl rfl)
theorem dX5_withoutGate_12 : decode cX5_withoutGate 12 = .ok (.ifCond .ne 5, 3) := dk_154 0 5 (dk_at dksX5_withoutGate_0 12 rfl rfl)
theorem dX5_withoutGate_15 : decode cX5_withoutGate 15 = .ok (.iconst 0, 1) := dk_3 (dk_at dksX5_withoutGate_0 15 rfl rfl)
theorem dX5_withoutGate_16 : decode cX5_withoutGate 16 = .ok (.ireturn, 1) := dk_172 (dk_at dksX5_withoutGate_0 16 rfl rfl)
theorem dX5_withoutGate_17 : decode cX5_withoutGate 17 = .ok (.aload_n 0, 1) := dk_42 (dk_at dksX5_withoutGate_0 17 rfl rfl)
theorem dX5_withoutGate_18 : decode cX5_withoutGate 18 = .ok (.invokevirtual 219, 3) := dk_182 0 219 (dk_at dksX5_withoutGate_0 18 rfl rfl)
theorem dX5_withoutGate_21 : decode cX5_withoutGate 21 = .ok (.istore_n 3, 1) := dk_62 (dk_at dksX5_withoutGate_0 21 rfl rfl)
theorem dX5_withoutGate_22 : decode cX5_withoutGate 22 = .ok (.aload_n 0, 1) := dk_42 (dk_at dksX5_withoutGate_0 22 rfl rfl)
theorem dX5_withoutGate_23 : decode cX5_withoutGate 23 = .ok (.invokevirtual 272, 3) := dk_182 1 16 (dk_at dksX5_withoutGate_1 0 rfl rfl)
theorem dX5_withoutGate_26 : decode cX5_withoutGate 26 = .ok (.aload_n 0, 1) := dk_42 (dk_at dksX5_withoutGate_1 3 rfl rfl)
theorem dX5_withoutGate_27 : decode cX5_withoutGate 27 = .ok (.invokevirtual 192, 3) := dk_182 0 192 (dk_at dksX5_withoutGate_1 4 rfl rfl)
theorem dX5_withoutGate_30 : decode cX5_withoutGate 30 = .ok (.aload_n 0, 1) := dk_42 (dk_at dksX5_withoutGate_1 7 rfl rfl)
theorem dX5_withoutGate_31 : decode cX5_withoutGate 31 = .ok (.getfield 7, 3) := dk_180 0 7 (dk_at dksX5_withoutGate_1 8 rfl rfl)
theorem dX5_withoutGate_34 : decode cX5_withoutGate 34 = .ok (.aload_n 0, 1) := dk_42 (dk_at dksX5_withoutGate_1 11 rfl rfl)
theorem dX5_withoutGate_35 : decode cX5_withoutGate 35 = .ok (.iload_n 1, 1) := dk_27 (dk_at dksX5_withoutGate_1 12 rfl rfl)
theorem dX5_withoutGate_36 : decode cX5_withoutGate 36 = .ok (.iload_n 2, 1) := dk_28 (dk_at dksX5_withoutGate_1 13 rfl rfl)
theorem dX5_withoutGate_37 : decode cX5_withoutGate 37 = .ok (.invokevirtual 81, 3) := dk_182 0 81 (dk_at dksX5_withoutGate_1 14 rfl rfl)
theorem dX5_withoutGate_40 : decode cX5_withoutGate 40 = .ok (.ldc2_w 109, 3) := dk_20 0 109 (dk_at dksX5_withoutGate_1 17 rfl rfl)
theorem dX5_withoutGate_43 : decode cX5_withoutGate 43 = .ok (.lastore, 1) := dk_80 (dk_at dksX5_withoutGate_1 20 rfl rfl)
theorem dX5_withoutGate_44 : decode cX5_withoutGate 44 = .ok (.aload_n 0, 1) := dk_42 (dk_at dksX5_withoutGate_1 21 rfl rfl)
theorem dX5_withoutGate_45 : decode cX5_withoutGate 45 = .ok (.invokevirtual 195, 3) := dk_182 0 195 (dk_at dksX5_withoutGate_2 0 rfl rfl)
theorem dX5_withoutGate_48 : decode cX5_withoutGate 48 = .ok (.aload_n 0, 1) := dk_42 (dk_at dksX5_withoutGate_2 3 rfl rfl)
theorem dX5_withoutGate_49 : decode cX5_withoutGate 49 = .ok (.invokevirtual 219, 3) := dk_182 0 219 (dk_at dksX5_withoutGate_2 4 rfl rfl)
theorem dX5_withoutGate_52 : decode cX5_withoutGate 52 = .ok (.istore 4, 2) := dk_54 4 (dk_at dksX5_withoutGate_2 7 rfl rfl)
theorem dX5_withoutGate_54 : decode cX5_withoutGate 54 = .ok (.aload_n 0, 1) := dk_42 (dk_at dksX5_withoutGate_2 9 rfl rfl)
theorem dX5_withoutGate_55 : decode cX5_withoutGate 55 = .ok (.invokevirtual 275, 3) := dk_182 1 19 (dk_at dksX5_withoutGate_2 10 rfl rfl)
theorem dX5_withoutGate_58 : decode cX5_withoutGate 58 = .ok (.iload 4, 2) := dk_21 4 (dk_at dksX5_withoutGate_2 13 rfl rfl)
theorem dX5_withoutGate_60 : decode cX5_withoutGate 60 = .ok (.iload_n 3, 1) := dk_29 (dk_at dksX5_withoutGate_2 15 rfl rfl)
theorem dX5_withoutGate_61 : decode cX5_withoutGate 61 = .ok (.isub, 1) := dk_100 (dk_at dksX5_withoutGate_2 16 rfl rfl)
theorem dX5_withoutGate_62 : decode cX5_withoutGate 62 = .ok (.ireturn, 1) := dk_172 (dk_at dksX5_withoutGate_2 17 rfl rfl)
abbrev cX5_append : ByteArray := prog_13_method_78_code
def yX5_append : MethodName := ⟨RX5, "append", "(I)I"⟩
def dkwX5_append_2 : List UInt8 := [180, 1, 32, 4, 96, 181, 1, 32, 42, 180, 1, 32, 172]
abbrev dktX5_append_2 : List UInt8 := dkwX5_append_2 ++ []
def dkwX5_append_1 : List UInt8 := [3, 4, 182, 0, 183, 154, 0, 5, 3, 172, 42, 180, 0, 44, 42, 180, 1, 32, 27, 79, 42, 89]
abbrev dktX5_append_1 : List UInt8 := dkwX5_append_1 ++ dktX5_append_2
def dkwX5_append_0 : List UInt8 := [42, 27, 133, 9, 20, 1, 30, 184, 0, 65, 42, 180, 1, 32, 17, 0, 150, 162, 0, 7, 4, 167, 0, 4]
abbrev dktX5_append_0 : List UInt8 := dkwX5_append_0 ++ dktX5_append_1
theorem dksX5_append_0 : cX5_append.data.toList.drop 0 = dktX5_append_0 := by decide +kernel
theorem dksX5_append_1 : cX5_append.data.toList.drop 24 = dktX5_append_1 := dk_seg dksX5_append_0 24 rfl rfl
theorem dksX5_append_2 : cX5_append.data.toList.drop 46 = dktX5_append_2 := dk_seg dksX5_append_1 22 rfl rfl
theorem dX5_append_0 : decode cX5_append 0 = .ok (.aload_n 0, 1) := dk_42 (dk_at dksX5_append_0 0 rfl rfl)
theorem dX5_append_1 : decode cX5_append 1 = .ok (.iload_n 1, 1) := dk_27 (dk_at dksX5_append_0 1 rfl rfl)
theorem dX5_append_2 : decode cX5_append 2 = .ok (.i2l, 1) := dk_133 (dk_at dksX5_append_0 2 rfl rfl)
theorem dX5_append_3 : decode cX5_append 3 = .ok (.lconst 0, 1) := dk_9 (dk_at dksX5_append_0 3 rfl rfl)
theorem dX5_append_4 : decode cX5_append 4 = .ok (.ldc2_w 286, 3) := dk_20 1 30 (dk_at dksX5_append_0 4 rfl rfl)
theorem dX5_append_7 : decode cX5_append 7 = .ok (.invokestatic 65, 3) := dk_184 0 65 (dk_at dksX5_append_0 7 rfl rfl)
theorem dX5_append_10 : decode cX5_append 10 = .ok (.aload_n 0, 1) := dk_42 (dk_at dksX5_append_0 10 rfl rfl)
theorem dX5_append_11 : decode cX5_append 11 = .ok (.getfield 288, 3) := dk_180 1 32 (dk_at dksX5_append_0 11 rfl rfl)
theorem dX5_append_14 : decode cX5_append 14 = .ok (.sipush 150, 3) := dk_17 0 150 (dk_at dksX5_append_0 14 rfl rfl)
theorem dX5_append_17 : decode cX5_append 17 = .ok (.if_icmp .ge 7, 3) := dk_162 0 7 (dk_at dksX5_append_0 17 rfl rfl)
theorem dX5_append_20 : decode cX5_append 20 = .ok (.iconst 1, 1) := dk_4 (dk_at dksX5_append_0 20 rfl rfl)
theorem dX5_append_21 : decode cX5_append 21 = .ok (.goto 4, 3) := dk_167 0 4 (dk_at dksX5_append_0 21 rfl rfl)
theorem dX5_append_24 : decode cX5_append 24 = .ok (.iconst 0, 1) := dk_3 (dk_at dksX5_append_1 0 rfl rfl)
theorem dX5_append_25 : decode cX5_append 25 = .ok (.iconst 1, 1) := dk_4 (dk_at dksX5_append_1 1 rfl rfl)
theorem dX5_append_26 : decode cX5_append 26 = .ok (.invokevirtual 183, 3) := dk_182 0 183 (dk_at dksX5_append_1 2 rfl rfl)
theorem dX5_append_29 : decode cX5_append 29 = .ok (.ifCond .ne 5, 3) := dk_154 0 5 (dk_at dksX5_append_1 5 rfl rfl)
theorem dX5_append_32 : decode cX5_append 32 = .ok (.iconst 0, 1) := dk_3 (dk_at dksX5_append_1 8 rfl rfl)
theorem dX5_append_33 : decode cX5_append 33 = .ok (.ireturn, 1) := dk_172 (dk_at dksX5_append_1 9 rfl rfl)
theorem dX5_append_34 : decode cX5_append 34 = .ok (.aload_n 0, 1) := dk_42 (dk_at dksX5_append_1 10 rfl rfl)
theorem dX5_append_35 : decode cX5_append 35 = .ok (.getfield 44, 3) := dk_180 0 44 (dk_at dksX5_append_1 11 rfl rfl)
theorem dX5_append_38 : decode cX5_append 38 = .ok (.aload_n 0, 1) := dk_42 (dk_at dksX5_append_1 14 rfl rfl)
theorem dX5_append_39 : decode cX5_append 39 = .ok (.getfield 288, 3) := dk_180 1 32 (dk_at dksX5_append_1 15 rfl rfl)
theorem dX5_append_42 : decode cX5_append 42 = .ok (.iload_n 1, 1) := dk_27 (dk_at dksX5_append_1 18 rfl rfl)
theorem dX5_append_43 : decode cX5_append 43 = .ok (.iastore, 1) := dk_79 (dk_at dksX5_append_1 19 rfl rfl)
theorem dX5_append_44 : decode cX5_append 44 = .ok (.aload_n 0, 1) := dk_42 (dk_at dksX5_append_1 20 rfl rfl)
theorem dX5_append_45 : decode cX5_append 45 = .ok (.dup, 1) := dk_89 (dk_at dksX5_append_1 21 rfl rfl)
theorem dX5_append_46 : decode cX5_append 46 = .ok (.getfield 288, 3) := dk_180 1 32 (dk_at dksX5_append_2 0 rfl rfl)
theorem dX5_append_49 : decode cX5_append 49 = .ok (.iconst 1, 1) := dk_4 (dk_at dksX5_append_2 3 rfl rfl)
theorem dX5_append_50 : decode cX5_append 50 = .ok (.iadd, 1) := dk_96 (dk_at dksX5_append_2 4 rfl rfl)
theorem dX5_append_51 : decode cX5_append 51 = .ok (.putfield 288, 3) := dk_181 1 32 (dk_at dksX5_append_2 5 rfl rfl)
theorem dX5_append_54 : decode cX5_append 54 = .ok (.aload_n 0, 1) := dk_42 (dk_at dksX5_append_2 8 rfl rfl)
theorem dX5_append_55 : decode cX5_append 55 = .ok (.getfield 288, 3) := dk_180 1 32 (dk_at dksX5_append_2 9 rfl rfl)
theorem dX5_append_58 : decode cX5_append 58 = .ok (.ireturn, 1) := dk_172 (dk_at dksX5_append_2 12 rfl rfl)
abbrev cX5_clearText : ByteArray := prog_13_method_79_code
def yX5_clearText : MethodName := ⟨RX5, "clearText", "()I"⟩
def dkwX5_clearText_0 : List UInt8 := [42, 3, 181, 0, 54, 42, 180, 1, 32, 60, 42, 3, 181, 1, 32, 27, 172]
abbrev dktX5_clearText_0 : List UInt8 := dkwX5_clearText_0 ++ []
theorem dksX5_clearText_0 : cX5_clearText.data.toList.drop 0 = dktX5_clearText_0 := by decide +kernel
theorem dX5_clearText_0 : decode cX5_clearText 0 = .ok (.aload_n 0, 1) := dk_42 (dk_at dksX5_clearText_0 0 rfl rfl)
theorem dX5_clearText_1 : decode cX5_clearText 1 = .ok (.iconst 0, 1) := dk_3 (dk_at dksX5_clearText_0 1 rfl rfl)
theorem dX5_clearText_2 : decode cX5_clearText 2 = .ok (.putfield 54, 3) := dk_181 0 54 (dk_at dksX5_clearText_0 2 rfl rfl)
theorem dX5_clearText_5 : decode cX5_clearText 5 = .ok (.aload_n 0, 1) := dk_42 (dk_at dksX5_clearText_0 5 rfl rfl)
theorem dX5_clearText_6 : decode cX5_clearText 6 = .ok (.getfield 288, 3) := dk_180 1 32 (dk_at dksX5_clearText_0 6 rfl rfl)
theorem dX5_clearText_9 : decode cX5_clearText 9 = .ok (.istore_n 1, 1) := dk_60 (dk_at dksX5_clearText_0 9 rfl rfl)
theorem dX5_clearText_10 : decode cX5_clearText 10 = .ok (.aload_n 0, 1) := dk_42 (dk_at dksX5_clearText_0 10 rfl rfl)
theorem dX5_clearText_11 : decode cX5_clearText 11 = .ok (.iconst 0, 1) := dk_3 (dk_at dksX5_clearText_0 11 rfl rfl)
theorem dX5_clearText_12 : decode cX5_clearText 12 = .ok (.putfield 288, 3) := dk_181 1 32 (dk_at dksX5_clearText_0 12 rfl rfl)
theorem dX5_clearText_15 : decode cX5_clearText 15 = .ok (.iload_n 1, 1) := dk_27 (dk_at dksX5_clearText_0 15 rfl rfl)
theorem dX5_clearText_16 : decode cX5_clearText 16 = .ok (.ireturn, 1) := dk_172 (dk_at dksX5_clearText_0 16 rfl rfl)
abbrev cX5_parse : ByteArray := prog_13_method_89_code
def yX5_parse : MethodName := ⟨RX5, "parse", "()I"⟩
def dkwX5_parse_3 : List UInt8 := [167, 255, 220, 42, 182, 0, 187, 42, 182, 1, 19, 42, 180, 0, 7, 16, 6, 47, 136, 172]
abbrev dktX5_parse_3 : List UInt8 := dkwX5_parse_3 ++ []
def dkwX5_parse_2 : List UInt8 := [47, 66, 42, 180, 0, 7, 28, 42, 180, 0, 16, 28, 47, 80, 42, 180, 0, 16, 28, 33, 80, 132, 2, 1]
abbrev dktX5_parse_2 : List UInt8 := dkwX5_parse_2 ++ dktX5_parse_3
def dkwX5_parse_1 : List UInt8 := [42, 180, 1, 35, 100, 172, 42, 182, 0, 174, 3, 61, 28, 17, 2, 1, 162, 0, 35, 42, 180, 0, 7, 28]
abbrev dktX5_parse_1 : List UInt8 := dkwX5_parse_1 ++ dktX5_parse_2
def dkwX5_parse_0 : List UInt8 := [42, 3, 181, 0, 54, 42, 182, 1, 16, 42, 182, 1, 74, 60, 27, 154, 0, 15, 42, 182, 1, 19, 16, 246]
abbrev dktX5_parse_0 : List UInt8 := dkwX5_parse_0 ++ dktX5_parse_1
theorem dksX5_parse_0 : cX5_parse.data.toList.drop 0 = dktX5_parse_0 := by decide +kernel
theorem dksX5_parse_1 : cX5_parse.data.toList.drop 24 = dktX5_parse_1 := dk_seg dksX5_parse_0 24 rfl rfl
theorem dksX5_parse_2 : cX5_parse.data.toList.drop 48 = dktX5_parse_2 := dk_seg dksX5_parse_1 24 rfl rfl
theorem dksX5_parse_3 : cX5_parse.data.toList.drop 72 = dktX5_parse_3 := dk_seg dksX5_parse_2 24 rfl rfl
theorem dX5_parse_0 : decode cX5_parse 0 = .ok (.aload_n 0, 1) := dk_42 (dk_at dksX5_parse_0 0 rfl rfl)
theorem dX5_parse_1 : decode cX5_parse 1 = .ok (.iconst 0, 1) := dk_3 (dk_at dksX5_parse_0 1 rfl rfl)
theorem dX5_parse_2 : decode cX5_parse 2 = .ok (.putfield 54, 3) := dk_181 0 54 (dk_at dksX5_parse_0 2 rfl rfl)
theorem dX5_parse_5 : decode cX5_parse 5 = .ok (.aload_n 0, 1) := dk_42 (dk_at dksX5_parse_0 5 rfl rfl)
theorem dX5_parse_6 : decode cX5_parse 6 = .ok (.invokevirtual 272, 3) := dk_182 1 16 (dk_at dksX5_parse_0 6 rfl rfl)
theorem dX5_parse_9 : decode cX5_parse 9 = .ok (.aload_n 0, 1) := dk_42 (dk_at dksX5_parse_0 9 rfl rfl)
theorem dX5_parse_10 : decode cX5_parse 10 = .ok (.invokevirtual 330, 3) := dk_182 1 74 (dk_at dksX5_parse_0 10 rfl rfl)
theorem dX5_parse_13 : decode cX5_parse 13 = .ok (.istore_n 1, 1) := dk_60 (dk_at dksX5_parse_0 13 rfl rfl)
theorem dX5_parse_14 : decode cX5_parse 14 = .ok (.iload_n 1, 1) := dk_27 (dk_at dksX5_parse_0 14 rfl rfl)
theorem dX5_parse_15 : decode cX5_parse 15 = .ok (.ifCond .ne 15, 3) := dk_154 0 15 (dk_at dksX5_parse_0 15 rfl rfl)
theorem dX5_parse_18 : decode cX5_parse 18 = .ok (.aload_n 0, 1) := dk_42 (dk_at dksX5_parse_0 18 rfl rfl)
theorem dX5_parse_19 : decode cX5_parse 19 = .ok (.invokevirtual 275, 3) := dk_182 1 19 (dk_at dksX5_parse_0 19 rfl rfl)
theorem dX5_parse_22 : decode cX5_parse 22 = .ok (.bipush (-10), 2) := dk_16 246 (dk_at dksX5_parse_0 22 rfl rfl)
theorem dX5_parse_24 : decode cX5_parse 24 = .ok (.aload_n 0, 1) := dk_42 (dk_at dksX5_parse_1 0 rfl rfl)
theorem dX5_parse_25 : decode cX5_parse 25 = .ok (.getfield 291, 3) := dk_180 1 35 (dk_at dksX5_parse_1 1 rfl rfl)
theorem dX5_parse_28 : decode cX5_parse 28 = .ok (.isub, 1) := dk_100 (dk_at dksX5_parse_1 4 rfl rfl)
theorem dX5_parse_29 : decode cX5_parse 29 = .ok (.ireturn, 1) := dk_172 (dk_at dksX5_parse_1 5 rfl rfl)
theorem dX5_parse_30 : decode cX5_parse 30 = .ok (.aload_n 0, 1) := dk_42 (dk_at dksX5_parse_1 6 rfl rfl)
theorem dX5_parse_31 : decode cX5_parse 31 = .ok (.invokevirtual 174, 3) := dk_182 0 174 (dk_at dksX5_parse_1 7 rfl rfl)
theorem dX5_parse_34 : decode cX5_parse 34 = .ok (.iconst 0, 1) := dk_3 (dk_at dksX5_parse_1 10 rfl rfl)
theorem dX5_parse_35 : decode cX5_parse 35 = .ok (.istore_n 2, 1) := dk_61 (dk_at dksX5_parse_1 11 rfl rfl)
theorem dX5_parse_36 : decode cX5_parse 36 = .ok (.iload_n 2, 1) := dk_28 (dk_at dksX5_parse_1 12 rfl rfl)
theorem dX5_parse_37 : decode cX5_parse 37 = .ok (.sipush 513, 3) := dk_17 2 1 (dk_at dksX5_parse_1 13 rfl rfl)
theorem dX5_parse_40 : decode cX5_parse 40 = .ok (.if_icmp .ge 35, 3) := dk_162 0 35 (dk_at dksX5_parse_1 16 rfl rfl)
theorem dX5_parse_43 : decode cX5_parse 43 = .ok (.aload_n 0, 1) := dk_42 (dk_at dksX5_parse_1 19 rfl rfl)
theorem dX5_parse_44 : decode cX5_parse 44 = .ok (.getfield 7, 3) := dk_180 0 7 (dk_at dksX5_parse_1 20 rfl rfl)
theorem dX5_parse_47 : decode cX5_parse 47 = .ok (.iload_n 2, 1) := dk_28 (dk_at dksX5_parse_1 23 rfl rfl)
theorem dX5_parse_48 : decode cX5_parse 48 = .ok (.laload, 1) := dk_47 (dk_at dksX5_parse_2 0 rfl rfl)
theorem dX5_parse_49 : decode cX5_parse 49 = .ok (.lstore_n 3, 1) := dk_66 (dk_at dksX5_parse_2 1 rfl rfl)
theorem dX5_parse_50 : decode cX5_parse 50 = .ok (.aload_n 0, 1) := dk_42 (dk_at dksX5_parse_2 2 rfl rfl)
theorem dX5_parse_51 : decode cX5_parse 51 = .ok (.getfield 7, 3) := dk_180 0 7 (dk_at dksX5_parse_2 3 rfl rfl)
theorem dX5_parse_54 : decode cX5_parse 54 = .ok (.iload_n 2, 1) := dk_28 (dk_at dksX5_parse_2 6 rfl rfl)
theorem dX5_parse_55 : decode cX5_parse 55 = .ok (.aload_n 0, 1) := dk_42 (dk_at dksX5_parse_2 7 rfl rfl)
theorem dX5_parse_56 : decode cX5_parse 56 = .ok (.getfield 16, 3) := dk_180 0 16 (dk_at dksX5_parse_2 8 rfl rfl)
theorem dX5_parse_59 : decode cX5_parse 59 = .ok (.iload_n 2, 1) := dk_28 (dk_at dksX5_parse_2 11 rfl rfl)
theorem dX5_parse_60 : decode cX5_parse 60 = .ok (.laload, 1) := dk_47 (dk_at dksX5_parse_2 12 rfl rfl)
theorem dX5_parse_61 : decode cX5_parse 61 = .ok (.lastore, 1) := dk_80 (dk_at dksX5_parse_2 13 rfl rfl)
theorem dX5_parse_62 : decode cX5_parse 62 = .ok (.aload_n 0, 1) := dk_42 (dk_at dksX5_parse_2 14 rfl rfl)
theorem dX5_parse_63 : decode cX5_parse 63 = .ok (.getfield 16, 3) := dk_180 0 16 (dk_at dksX5_parse_2 15 rfl rfl)
theorem dX5_parse_66 : decode cX5_parse 66 = .ok (.iload_n 2, 1) := dk_28 (dk_at dksX5_parse_2 18 rfl rfl)
theorem dX5_parse_67 : decode cX5_parse 67 = .ok (.lload_n 3, 1) := dk_33 (dk_at dksX5_parse_2 19 rfl rfl)
theorem dX5_parse_68 : decode cX5_parse 68 = .ok (.lastore, 1) := dk_80 (dk_at dksX5_parse_2 20 rfl rfl)
theorem dX5_parse_69 : decode cX5_parse 69 = .ok (.iinc 2 1, 3) := dk_132 2 1 (dk_at dksX5_parse_2 21 rfl rfl)
theorem dX5_parse_72 : decode cX5_parse 72 = .ok (.goto (-36), 3) := dk_167 255 220 (dk_at dksX5_parse_3 0 rfl rfl)
theorem dX5_parse_75 : decode cX5_parse 75 = .ok (.aload_n 0, 1) := dk_42 (dk_at dksX5_parse_3 3 rfl rfl)
theorem dX5_parse_76 : decode cX5_parse 76 = .ok (.invokevirtual 187, 3) := dk_182 0 187 (dk_at dksX5_parse_3 4 rfl rfl)
theorem dX5_parse_79 : decode cX5_parse 79 = .ok (.aload_n 0, 1) := dk_42 (dk_at dksX5_parse_3 7 rfl rfl)
theorem dX5_parse_80 : decode cX5_parse 80 = .ok (.invokevirtual 275, 3) := dk_182 1 19 (dk_at dksX5_parse_3 8 rfl rfl)
theorem dX5_parse_83 : decode cX5_parse 83 = .ok (.aload_n 0, 1) := dk_42 (dk_at dksX5_parse_3 11 rfl rfl)
theorem dX5_parse_84 : decode cX5_parse 84 = .ok (.getfield 7, 3) := dk_180 0 7 (dk_at dksX5_parse_3 12 rfl rfl)
theorem dX5_parse_87 : decode cX5_parse 87 = .ok (.bipush 6, 2) := dk_16 6 (dk_at dksX5_parse_3 15 rfl rfl)
theorem dX5_parse_89 : decode cX5_parse 89 = .ok (.laload, 1) := dk_47 (dk_at dksX5_parse_3 17 rfl rfl)
theorem dX5_parse_90 : decode cX5_parse 90 = .ok (.l2i, 1) := dk_136 (dk_at dksX5_parse_3 18 rfl rfl)
theorem dX5_parse_91 : decode cX5_parse 91 = .ok (.ireturn, 1) := dk_172 (dk_at dksX5_parse_3 19 rfl rfl)
abbrev cX5_reads : ByteArray := prog_13_method_88_code
def yX5_reads : MethodName := ⟨RX5, "reads", "()Z"⟩
def dkwX5_reads_5 : List UInt8 := [154, 0, 5, 3, 172, 167, 255, 190, 4, 172]
abbrev dktX5_reads_5 : List UInt8 := dkwX5_reads_5 ++ []
def dkwX5_reads_4 : List UInt8 := [42, 16, 103, 182, 1, 59, 153, 0, 14, 42, 182, 1, 71, 153, 0, 7, 4, 167, 0, 4, 3, 61, 28]
abbrev dktX5_reads_4 : List UInt8 := dkwX5_reads_4 ++ dktX5_reads_5
def dkwX5_reads_3 : List UInt8 := [182, 1, 59, 154, 0, 5, 3, 172, 42, 16, 100, 182, 1, 59, 153, 0, 10, 42, 182, 1, 68, 167, 0, 24]
abbrev dktX5_reads_3 : List UInt8 := dkwX5_reads_3 ++ dktX5_reads_4
def dkwX5_reads_2 : List UInt8 := [182, 1, 65, 154, 0, 5, 3, 172, 42, 180, 1, 35, 42, 180, 1, 32, 162, 0, 61, 42, 16, 59]
abbrev dktX5_reads_2 : List UInt8 := dkwX5_reads_2 ++ dktX5_reads_3
def dkwX5_reads_1 : List UInt8 := [154, 0, 5, 3, 172, 42, 27, 42, 180, 1, 46, 182, 0, 50, 42, 16, 58, 182, 1, 59, 153, 0, 10, 42]
abbrev dktX5_reads_1 : List UInt8 := dkwX5_reads_1 ++ dktX5_reads_2
def dkwX5_reads_0 : List UInt8 := [42, 3, 181, 1, 35, 42, 182, 1, 62, 154, 0, 5, 3, 172, 42, 180, 1, 46, 60, 42, 182, 1, 62]
abbrev dktX5_reads_0 : List UInt8 := dkwX5_reads_0 ++ dktX5_reads_1
theorem dksX5_reads_0 : cX5_reads.data.toList.drop 0 = dktX5_reads_0 := by decide +kernel
theorem dksX5_reads_1 : cX5_reads.data.toList.drop 23 = dktX5_reads_1 := dk_seg dksX5_reads_0 23 rfl rfl
theorem dksX5_reads_2 : cX5_reads.data.toList.drop 47 = dktX5_reads_2 := dk_seg dksX5_reads_1 24 rfl rfl
theorem dksX5_reads_3 : cX5_reads.data.toList.drop 69 = dktX5_reads_3 := dk_seg dksX5_reads_2 22 rfl rfl
theorem dksX5_reads_4 : cX5_reads.data.toList.drop 93 = dktX5_reads_4 := dk_seg dksX5_reads_3 24 rfl rfl
theorem dksX5_reads_5 : cX5_reads.data.toList.drop 116 = dktX5_reads_5 := dk_seg dksX5_reads_4 23 rfl rfl
theorem dX5_reads_0 : decode cX5_reads 0 = .ok (.aload_n 0, 1) := dk_42 (dk_at dksX5_reads_0 0 rfl rfl)
theorem dX5_reads_1 : decode cX5_reads 1 = .ok (.iconst 0, 1) := dk_3 (dk_at dksX5_reads_0 1 rfl rfl)
theorem dX5_reads_2 : decode cX5_reads 2 = .ok (.putfield 291, 3) := dk_181 1 35 (dk_at dksX5_reads_0 2 rfl rfl)
theorem dX5_reads_5 : decode cX5_reads 5 = .ok (.aload_n 0, 1) := dk_42 (dk_at dksX5_reads_0 5 rfl rfl)
theorem dX5_reads_6 : decode cX5_reads 6 = .ok (.invokevirtual 318, 3) := dk_182 1 62 (dk_at dksX5_reads_0 6 rfl rfl)
theorem dX5_reads_9 : decode cX5_reads 9 = .ok (.ifCond .ne 5, 3) := dk_154 0 5 (dk_at dksX5_reads_0 9 rfl rfl)
theorem dX5_reads_12 : decode cX5_reads 12 = .ok (.iconst 0, 1) := dk_3 (dk_at dksX5_reads_0 12 rfl rfl)
theorem dX5_reads_13 : decode cX5_reads 13 = .ok (.ireturn, 1) := dk_172 (dk_at dksX5_reads_0 13 rfl rfl)
theorem dX5_reads_14 : decode cX5_reads 14 = .ok (.aload_n 0, 1) := dk_42 (dk_at dksX5_reads_0 14 rfl rfl)
theorem dX5_reads_15 : decode cX5_reads 15 = .ok (.getfield 302, 3) := dk_180 1 46 (dk_at dksX5_reads_0 15 rfl rfl)
theorem dX5_reads_18 : decode cX5_reads 18 = .ok (.istore_n 1, 1) := dk_60 (dk_at dksX5_reads_0 18 rfl rfl)
theorem dX5_reads_19 : decode cX5_reads 19 = .ok (.aload_n 0, 1) := dk_42 (dk_at dksX5_reads_0 19 rfl rfl)
theorem dX5_reads_20 : decode cX5_reads 20 = .ok (.invokevirtual 318, 3) := dk_182 1 62 (dk_at dksX5_reads_0 20 rfl rfl)
theorem dX5_reads_23 : decode cX5_reads 23 = .ok (.ifCond .ne 5, 3) := dk_154 0 5 (dk_at dksX5_reads_1 0 rfl rfl)
theorem dX5_reads_26 : decode cX5_reads 26 = .ok (.iconst 0, 1) := dk_3 (dk_at dksX5_reads_1 3 rfl rfl)
theorem dX5_reads_27 : decode cX5_reads 27 = .ok (.ireturn, 1) := dk_172 (dk_at dksX5_reads_1 4 rfl rfl)
theorem dX5_reads_28 : decode cX5_reads 28 = .ok (.aload_n 0, 1) := dk_42 (dk_at dksX5_reads_1 5 rfl rfl)
theorem dX5_reads_29 : decode cX5_reads 29 = .ok (.iload_n 1, 1) := dk_27 (dk_at dksX5_reads_1 6 rfl rfl)
theorem dX5_reads_30 : decode cX5_reads 30 = .ok (.aload_n 0, 1) := dk_42 (dk_at dksX5_reads_1 7 rfl rfl)
theorem dX5_reads_31 : decode cX5_reads 31 = .ok (.getfield 302, 3) := dk_180 1 46 (dk_at dksX5_reads_1 8 rfl rfl)
theorem dX5_reads_34 : decode cX5_reads 34 = .ok (.invokevirtual 50, 3) := dk_182 0 50 (dk_at dksX5_reads_1 11 rfl rfl)
theorem dX5_reads_37 : decode cX5_reads 37 = .ok (.aload_n 0, 1) := dk_42 (dk_at dksX5_reads_1 14 rfl rfl)
theorem dX5_reads_38 : decode cX5_reads 38 = .ok (.bipush 58, 2) := dk_16 58 (dk_at dksX5_reads_1 15 rfl rfl)
theorem dX5_reads_40 : decode cX5_reads 40 = .ok (.invokevirtual 315, 3) := dk_182 1 59 (dk_at dksX5_reads_1 17 rfl rfl)
theorem dX5_reads_43 : decode cX5_reads 43 = .ok (.ifCond .eq 10, 3) := dk_153 0 10 (dk_at dksX5_reads_1 20 rfl rfl)
theorem dX5_reads_46 : decode cX5_reads 46 = .ok (.aload_n 0, 1) := dk_42 (dk_at dksX5_reads_1 23 rfl rfl)
theorem dX5_reads_47 : decode cX5_reads 47 = .ok (.invokevirtual 321, 3) := dk_182 1 65 (dk_at dksX5_reads_2 0 rfl rfl)
theorem dX5_reads_50 : decode cX5_reads 50 = .ok (.ifCond .ne 5, 3) := dk_154 0 5 (dk_at dksX5_reads_2 3 rfl rfl)
theorem dX5_reads_53 : decode cX5_reads 53 = .ok (.iconst 0, 1) := dk_3 (dk_at dksX5_reads_2 6 rfl rfl)
theorem dX5_reads_54 : decode cX5_reads 54 = .ok (.ireturn, 1) := dk_172 (dk_at dksX5_reads_2 7 rfl rfl)
theorem dX5_reads_55 : decode cX5_reads 55 = .ok (.aload_n 0, 1) := dk_42 (dk_at dksX5_reads_2 8 rfl rfl)
theorem dX5_reads_56 : decode cX5_reads 56 = .ok (.getfield 291, 3) := dk_180 1 35 (dk_at dksX5_reads_2 9 rfl rfl)
theorem dX5_reads_59 : decode cX5_reads 59 = .ok (.aload_n 0, 1) := dk_42 (dk_at dksX5_reads_2 12 rfl rfl)
theorem dX5_reads_60 : decode cX5_reads 60 = .ok (.getfield 288, 3) := dk_180 1 32 (dk_at dksX5_reads_2 13 rfl rfl)
theorem dX5_reads_63 : decode cX5_reads 63 = .ok (.if_icmp .ge 61, 3) := dk_162 0 61 (dk_at dksX5_reads_2 16 rfl rfl)
theorem dX5_reads_66 : decode cX5_reads 66 = .ok (.aload_n 0, 1) := dk_42 (dk_at dksX5_reads_2 19 rfl rfl)
theorem dX5_reads_67 : decode cX5_reads 67 = .ok (.bipush 59, 2) := dk_16 59 (dk_at dksX5_reads_2 20 rfl rfl)
theorem dX5_reads_69 : decode cX5_reads 69 = .ok (.invokevirtual 315, 3) := dk_182 1 59 (dk_at dksX5_reads_3 0 rfl rfl)
theorem dX5_reads_72 : decode cX5_reads 72 = .ok (.ifCond .ne 5, 3) := dk_154 0 5 (dk_at dksX5_reads_3 3 rfl rfl)
theorem dX5_reads_75 : decode cX5_reads 75 = .ok (.iconst 0, 1) := dk_3 (dk_at dksX5_reads_3 6 rfl rfl)
theorem dX5_reads_76 : decode cX5_reads 76 = .ok (.ireturn, 1) := dk_172 (dk_at dksX5_reads_3 7 rfl rfl)
theorem dX5_reads_77 : decode cX5_reads 77 = .ok (.aload_n 0, 1) := dk_42 (dk_at dksX5_reads_3 8 rfl rfl)
theorem dX5_reads_78 : decode cX5_reads 78 = .ok (.bipush 100, 2) := dk_16 100 (dk_at dksX5_reads_3 9 rfl rfl)
theorem dX5_reads_80 : decode cX5_reads 80 = .ok (.invokevirtual 315, 3) := dk_182 1 59 (dk_at dksX5_reads_3 11 rfl rfl)
theorem dX5_reads_83 : decode cX5_reads 83 = .ok (.ifCond .eq 10, 3) := dk_153 0 10 (dk_at dksX5_reads_3 14 rfl rfl)
theorem dX5_reads_86 : decode cX5_reads 86 = .ok (.aload_n 0, 1) := dk_42 (dk_at dksX5_reads_3 17 rfl rfl)
theorem dX5_reads_87 : decode cX5_reads 87 = .ok (.invokevirtual 324, 3) := dk_182 1 68 (dk_at dksX5_reads_3 18 rfl rfl)
theorem dX5_reads_90 : decode cX5_reads 90 = .ok (.goto 24, 3) := dk_167 0 24 (dk_at dksX5_reads_3 21 rfl rfl)
theorem dX5_reads_93 : decode cX5_reads 93 = .ok (.aload_n 0, 1) := dk_42 (dk_at dksX5_reads_4 0 rfl rfl)
theorem dX5_reads_94 : decode cX5_reads 94 = .ok (.bipush 103, 2) := dk_16 103 (dk_at dksX5_reads_4 1 rfl rfl)
theorem dX5_reads_96 : decode cX5_reads 96 = .ok (.invokevirtual 315, 3) := dk_182 1 59 (dk_at dksX5_reads_4 3 rfl rfl)
theorem dX5_reads_99 : decode cX5_reads 99 = .ok (.ifCond .eq 14, 3) := dk_153 0 14 (dk_at dksX5_reads_4 6 rfl rfl)
theorem dX5_reads_102 : decode cX5_reads 102 = .ok (.aload_n 0, 1) := dk_42 (dk_at dksX5_reads_4 9 rfl rfl)
theorem dX5_reads_103 : decode cX5_reads 103 = .ok (.invokevirtual 327, 3) := dk_182 1 71 (dk_at dksX5_reads_4 10 rfl rfl)
theorem dX5_reads_106 : decode cX5_reads 106 = .ok (.ifCond .eq 7, 3) := dk_153 0 7 (dk_at dksX5_reads_4 13 rfl rfl)
theorem dX5_reads_109 : decode cX5_reads 109 = .ok (.iconst 1, 1) := dk_4 (dk_at dksX5_reads_4 16 rfl rfl)
theorem dX5_reads_110 : decode cX5_reads 110 = .ok (.goto 4, 3) := dk_167 0 4 (dk_at dksX5_reads_4 17 rfl rfl)
theorem dX5_reads_113 : decode cX5_reads 113 = .ok (.iconst 0, 1) := dk_3 (dk_at dksX5_reads_4 20 rfl rfl)
theorem dX5_reads_114 : decode cX5_reads 114 = .ok (.istore_n 2, 1) := dk_61 (dk_at dksX5_reads_4 21 rfl rfl)
theorem dX5_reads_115 : decode cX5_reads 115 = .ok (.iload_n 2, 1) := dk_28 (dk_at dksX5_reads_4 22 rfl rfl)
theorem dX5_reads_116 : decode cX5_reads 116 = .ok (.ifCond .ne 5, 3) := dk_154 0 5 (dk_at dksX5_reads_5 0 rfl rfl)
theorem dX5_reads_119 : decode cX5_reads 119 = .ok (.iconst 0, 1) := dk_3 (dk_at dksX5_reads_5 3 rfl rfl)
theorem dX5_reads_120 : decode cX5_reads 120 = .ok (.ireturn, 1) := dk_172 (dk_at dksX5_reads_5 4 rfl rfl)
theorem dX5_reads_121 : decode cX5_reads 121 = .ok (.goto (-66), 3) := dk_167 255 190 (dk_at dksX5_reads_5 5 rfl rfl)
theorem dX5_reads_124 : decode cX5_reads 124 = .ok (.iconst 1, 1) := dk_4 (dk_at dksX5_reads_5 8 rfl rfl)
theorem dX5_reads_125 : decode cX5_reads 125 = .ok (.ireturn, 1) := dk_172 (dk_at dksX5_reads_5 9 rfl rfl)
abbrev cX5_readsSize : ByteArray := prog_13_method_82_code
def yX5_readsSize : MethodName := ⟨RX5, "readsSize", "()Z"⟩
def dkwX5_readsSize_3 : List UInt8 := [4, 167, 0, 4, 3, 96, 181, 1, 35, 27, 172]
abbrev dktX5_readsSize_3 : List UInt8 := dkwX5_readsSize_3 ++ []
def dkwX5_readsSize_2 : List UInt8 := [42, 180, 1, 35, 46, 16, 48, 100, 167, 0, 4, 3, 181, 1, 46, 42, 89, 180, 1, 35, 27, 153, 0, 7]
abbrev dktX5_readsSize_2 : List UInt8 := dkwX5_readsSize_2 ++ dktX5_readsSize_3
def dkwX5_readsSize_1 : List UInt8 := [20, 1, 44, 184, 0, 65, 153, 0, 7, 4, 167, 0, 4, 3, 60, 42, 27, 153, 0, 18, 42, 180, 0, 44]
abbrev dktX5_readsSize_1 : List UInt8 := dkwX5_readsSize_1 ++ dktX5_readsSize_2
def dkwX5_readsSize_0 : List UInt8 := [42, 180, 1, 35, 42, 180, 1, 32, 162, 0, 29, 42, 180, 0, 44, 42, 180, 1, 35, 46, 133, 20, 1, 42]
abbrev dktX5_readsSize_0 : List UInt8 := dkwX5_readsSize_0 ++ dktX5_readsSize_1
theorem dksX5_readsSize_0 : cX5_readsSize.data.toList.drop 0 = dktX5_readsSize_0 := by decide +kernel
theorem dksX5_readsSize_1 : cX5_readsSize.data.toList.drop 24 = dktX5_readsSize_1 := dk_seg dksX5_readsSize_0 24 rfl rfl
theorem dksX5_readsSize_2 : cX5_readsSize.data.toList.drop 48 = dktX5_readsSize_2 := dk_seg dksX5_readsSize_1 24 rfl rfl
theorem dksX5_readsSize_3 : cX5_readsSize.data.toList.drop 72 = dktX5_readsSize_3 := dk_seg dksX5_readsSize_2 24 rfl rfl
theorem dX5_readsSize_0 : decode cX5_readsSize 0 = .ok (.aload_n 0, 1) := dk_42 (dk_at dksX5_readsSize_0 0 rfl rfl)
theorem dX5_readsSize_1 : decode cX5_readsSize 1 = .ok (.getfield 291, 3) := dk_180 1 35 (dk_at dksX5_readsSize_0 1 rfl rfl)
theorem dX5_readsSize_4 : decode cX5_readsSize 4 = .ok (.aload_n 0, 1) := dk_42 (dk_at dksX5_readsSize_0 4 rfl rfl)
theorem dX5_readsSize_5 : decode cX5_readsSize 5 = .ok (.getfield 288, 3) := dk_180 1 32 (dk_at dksX5_readsSize_0 5 rfl rfl)
theorem dX5_readsSize_8 : decode cX5_readsSize 8 = .ok (.if_icmp .ge 29, 3) := dk_162 0 29 (dk_at dksX5_readsSize_0 8 rfl rfl)
theorem dX5_readsSize_11 : decode cX5_readsSize 11 = .ok (.aload_n 0, 1) := dk_42 (dk_at dksX5_readsSize_0 11 rfl rfl)
theorem dX5_readsSize_12 : decode cX5_readsSize 12 = .ok (.getfield 44, 3) := dk_180 0 44 (dk_at dksX5_readsSize_0 12 rfl rfl)
theorem dX5_readsSize_15 : decode cX5_readsSize 15 = .ok (.aload_n 0, 1) := dk_42 (dk_at dksX5_readsSize_0 15 rfl rfl)
theorem dX5_readsSize_16 : decode cX5_readsSize 16 = .ok (.getfield 291, 3) := dk_180 1 35 (dk_at dksX5_readsSize_0 16 rfl rfl)
theorem dX5_readsSize_19 : decode cX5_readsSize 19 = .ok (.iaload, 1) := dk_46 (dk_at dksX5_readsSize_0 19 rfl rfl)
theorem dX5_readsSize_20 : decode cX5_readsSize 20 = .ok (.i2l, 1) := dk_133 (dk_at dksX5_readsSize_0 20 rfl rfl)
theorem dX5_readsSize_21 : decode cX5_readsSize 21 = .ok (.ldc2_w 298, 3) := dk_20 1 42 (dk_at dksX5_readsSize_0 21 rfl rfl)
theorem dX5_readsSize_24 : decode cX5_readsSize 24 = .ok (.ldc2_w 300, 3) := dk_20 1 44 (dk_at dksX5_readsSize_1 0 rfl rfl)
theorem dX5_readsSize_27 : decode cX5_readsSize 27 = .ok (.invokestatic 65, 3) := dk_184 0 65 (dk_at dksX5_readsSize_1 3 rfl rfl)
theorem dX5_readsSize_30 : decode cX5_readsSize 30 = .ok (.ifCond .eq 7, 3) := dk_153 0 7 (dk_at dksX5_readsSize_1 6 rfl rfl)
theorem dX5_readsSize_33 : decode cX5_readsSize 33 = .ok (.iconst 1, 1) := dk_4 (dk_at dksX5_readsSize_1 9 rfl rfl)
theorem dX5_readsSize_34 : decode cX5_readsSize 34 = .ok (.goto 4, 3) := dk_167 0 4 (dk_at dksX5_readsSize_1 10 rfl rfl)
theorem dX5_readsSize_37 : decode cX5_readsSize 37 = .ok (.iconst 0, 1) := dk_3 (dk_at dksX5_readsSize_1 13 rfl rfl)
theorem dX5_readsSize_38 : decode cX5_readsSize 38 = .ok (.istore_n 1, 1) := dk_60 (dk_at dksX5_readsSize_1 14 rfl rfl)
theorem dX5_readsSize_39 : decode cX5_readsSize 39 = .ok (.aload_n 0, 1) := dk_42 (dk_at dksX5_readsSize_1 15 rfl rfl)
theorem dX5_readsSize_40 : decode cX5_readsSize 40 = .ok (.iload_n 1, 1) := dk_27 (dk_at dksX5_readsSize_1 16 rfl rfl)
theorem dX5_readsSize_41 : decode cX5_readsSize 41 = .ok (.ifCond .eq 18, 3) := dk_153 0 18 (dk_at dksX5_readsSize_1 17 rfl rfl)
theorem dX5_readsSize_44 : decode cX5_readsSize 44 = .ok (.aload_n 0, 1) := dk_42 (dk_at dksX5_readsSize_1 20 rfl rfl)
theorem dX5_readsSize_45 : decode cX5_readsSize 45 = .ok (.getfield 44, 3) := dk_180 0 44 (dk_at dksX5_readsSize_1 21 rfl rfl)
theorem dX5_readsSize_48 : decode cX5_readsSize 48 = .ok (.aload_n 0, 1) := dk_42 (dk_at dksX5_readsSize_2 0 rfl rfl)
theorem dX5_readsSize_49 : decode cX5_readsSize 49 = .ok (.getfield 291, 3) := dk_180 1 35 (dk_at dksX5_readsSize_2 1 rfl rfl)
theorem dX5_readsSize_52 : decode cX5_readsSize 52 = .ok (.iaload, 1) := dk_46 (dk_at dksX5_readsSize_2 4 rfl rfl)
theorem dX5_readsSize_53 : decode cX5_readsSize 53 = .ok (.bipush 48, 2) := dk_16 48 (dk_at dksX5_readsSize_2 5 rfl rfl)
theorem dX5_readsSize_55 : decode cX5_readsSize 55 = .ok (.isub, 1) := dk_100 (dk_at dksX5_readsSize_2 7 rfl rfl)
theorem dX5_readsSize_56 : decode cX5_readsSize 56 = .ok (.goto 4, 3) := dk_167 0 4 (dk_at dksX5_readsSize_2 8 rfl rfl)
theorem dX5_readsSize_59 : decode cX5_readsSize 59 = .ok (.iconst 0, 1) := dk_3 (dk_at dksX5_readsSize_2 11 rfl rfl)
theorem dX5_readsSize_60 : decode cX5_readsSize 60 = .ok (.putfield 302, 3) := dk_181 1 46 (dk_at dksX5_readsSize_2 12 rfl rfl)
theorem dX5_readsSize_63 : decode cX5_readsSize 63 = .ok (.aload_n 0, 1) := dk_42 (dk_at dksX5_readsSize_2 15 rfl rfl)
theorem dX5_readsSize_64 : decode cX5_readsSize 64 = .ok (.dup, 1) := dk_89 (dk_at dksX5_readsSize_2 16 rfl rfl)
theorem dX5_readsSize_65 : decode cX5_readsSize 65 = .ok (.getfield 291, 3) := dk_180 1 35 (dk_at dksX5_readsSize_2 17 rfl rfl)
theorem dX5_readsSize_68 : decode cX5_readsSize 68 = .ok (.iload_n 1, 1) := dk_27 (dk_at dksX5_readsSize_2 20 rfl rfl)
theorem dX5_readsSize_69 : decode cX5_readsSize 69 = .ok (.ifCond .eq 7, 3) := dk_153 0 7 (dk_at dksX5_readsSize_2 21 rfl rfl)
theorem dX5_readsSize_72 : decode cX5_readsSize 72 = .ok (.iconst 1, 1) := dk_4 (dk_at dksX5_readsSize_3 0 rfl rfl)
theorem dX5_readsSize_73 : decode cX5_readsSize 73 = .ok (.goto 4, 3) := dk_167 0 4 (dk_at dksX5_readsSize_3 1 rfl rfl)
theorem dX5_readsSize_76 : decode cX5_readsSize 76 = .ok (.iconst 0, 1) := dk_3 (dk_at dksX5_readsSize_3 4 rfl rfl)
theorem dX5_readsSize_77 : decode cX5_readsSize 77 = .ok (.iadd, 1) := dk_96 (dk_at dksX5_readsSize_3 5 rfl rfl)
theorem dX5_readsSize_78 : decode cX5_readsSize 78 = .ok (.putfield 291, 3) := dk_181 1 35 (dk_at dksX5_readsSize_3 6 rfl rfl)
theorem dX5_readsSize_81 : decode cX5_readsSize 81 = .ok (.iload_n 1, 1) := dk_27 (dk_at dksX5_readsSize_3 9 rfl rfl)
theorem dX5_readsSize_82 : decode cX5_readsSize 82 = .ok (.ireturn, 1) := dk_172 (dk_at dksX5_readsSize_3 10 rfl rfl)
abbrev cX5_passes : ByteArray := prog_13_method_81_code
def yX5_passes : MethodName := ⟨RX5, "passes", "(I)Z"⟩
def dkwX5_passes_2 : List UInt8 := [28, 172]
abbrev dktX5_passes_2 : List UInt8 := dkwX5_passes_2 ++ []
def dkwX5_passes_1 : List UInt8 := [4, 167, 0, 4, 3, 61, 42, 89, 180, 1, 35, 28, 153, 0, 7, 4, 167, 0, 4, 3, 96, 181, 1, 35]
abbrev dktX5_passes_1 : List UInt8 := dkwX5_passes_1 ++ dktX5_passes_2
def dkwX5_passes_0 : List UInt8 := [42, 180, 1, 35, 42, 180, 1, 32, 162, 0, 20, 42, 180, 0, 44, 42, 180, 1, 35, 46, 27, 160, 0, 7]
abbrev dktX5_passes_0 : List UInt8 := dkwX5_passes_0 ++ dktX5_passes_1
theorem dksX5_passes_0 : cX5_passes.data.toList.drop 0 = dktX5_passes_0 := by decide +kernel
theorem dksX5_passes_1 : cX5_passes.data.toList.drop 24 = dktX5_passes_1 := dk_seg dksX5_passes_0 24 rfl rfl
theorem dksX5_passes_2 : cX5_passes.data.toList.drop 48 = dktX5_passes_2 := dk_seg dksX5_passes_1 24 rfl rfl
theorem dX5_passes_0 : decode cX5_passes 0 = .ok (.aload_n 0, 1) := dk_42 (dk_at dksX5_passes_0 0 rfl rfl)
theorem dX5_passes_1 : decode cX5_passes 1 = .ok (.getfield 291, 3) := dk_180 1 35 (dk_at dksX5_passes_0 1 rfl rfl)
theorem dX5_passes_4 : decode cX5_passes 4 = .ok (.aload_n 0, 1) := dk_42 (dk_at dksX5_passes_0 4 rfl rfl)
theorem dX5_passes_5 : decode cX5_passes 5 = .ok (.getfield 288, 3) := dk_180 1 32 (dk_at dksX5_passes_0 5 rfl rfl)
theorem dX5_passes_8 : decode cX5_passes 8 = .ok (.if_icmp .ge 20, 3) := dk_162 0 20 (dk_at dksX5_passes_0 8 rfl rfl)
theorem dX5_passes_11 : decode cX5_passes 11 = .ok (.aload_n 0, 1) := dk_42 (dk_at dksX5_passes_0 11 rfl rfl)
theorem dX5_passes_12 : decode cX5_passes 12 = .ok (.getfield 44, 3) := dk_180 0 44 (dk_at dksX5_passes_0 12 rfl rfl)
theorem dX5_passes_15 : decode cX5_passes 15 = .ok (.aload_n 0, 1) := dk_42 (dk_at dksX5_passes_0 15 rfl rfl)
theorem dX5_passes_16 : decode cX5_passes 16 = .ok (.getfield 291, 3) := dk_180 1 35 (dk_at dksX5_passes_0 16 rfl rfl)
theorem dX5_passes_19 : decode cX5_passes 19 = .ok (.iaload, 1) := dk_46 (dk_at dksX5_passes_0 19 rfl rfl)
theorem dX5_passes_20 : decode cX5_passes 20 = .ok (.iload_n 1, 1) := dk_27 (dk_at dksX5_passes_0 20 rfl rfl)
theorem dX5_passes_21 : decode cX5_passes 21 = .ok (.if_icmp .ne 7, 3) := dk_160 0 7 (dk_at dksX5_passes_0 21 rfl rfl)
theorem dX5_passes_24 : decode cX5_passes 24 = .ok (.iconst 1, 1) := dk_4 (dk_at dksX5_passes_1 0 rfl rfl)
theorem dX5_passes_25 : decode cX5_passes 25 = .ok (.goto 4, 3) := dk_167 0 4 (dk_at dksX5_passes_1 1 rfl rfl)
theorem dX5_passes_28 : decode cX5_passes 28 = .ok (.iconst 0, 1) := dk_3 (dk_at dksX5_passes_1 4 rfl rfl)
theorem dX5_passes_29 : decode cX5_passes 29 = .ok (.istore_n 2, 1) := dk_61 (dk_at dksX5_passes_1 5 rfl rfl)
theorem dX5_passes_30 : decode cX5_passes 30 = .ok (.aload_n 0, 1) := dk_42 (dk_at dksX5_passes_1 6 rfl rfl)
theorem dX5_passes_31 : decode cX5_passes 31 = .ok (.dup, 1) := dk_89 (dk_at dksX5_passes_1 7 rfl rfl)
theorem dX5_passes_32 : decode cX5_passes 32 = .ok (.getfield 291, 3) := dk_180 1 35 (dk_at dksX5_passes_1 8 rfl rfl)
theorem dX5_passes_35 : decode cX5_passes 35 = .ok (.iload_n 2, 1) := dk_28 (dk_at dksX5_passes_1 11 rfl rfl)
theorem dX5_passes_36 : decode cX5_passes 36 = .ok (.ifCond .eq 7, 3) := dk_153 0 7 (dk_at dksX5_passes_1 12 rfl rfl)
theorem dX5_passes_39 : decode cX5_passes 39 = .ok (.iconst 1, 1) := dk_4 (dk_at dksX5_passes_1 15 rfl rfl)
theorem dX5_passes_40 : decode cX5_passes 40 = .ok (.goto 4, 3) := dk_167 0 4 (dk_at dksX5_passes_1 16 rfl rfl)
theorem dX5_passes_43 : decode cX5_passes 43 = .ok (.iconst 0, 1) := dk_3 (dk_at dksX5_passes_1 19 rfl rfl)
theorem dX5_passes_44 : decode cX5_passes 44 = .ok (.iadd, 1) := dk_96 (dk_at dksX5_passes_1 20 rfl rfl)
theorem dX5_passes_45 : decode cX5_passes 45 = .ok (.putfield 291, 3) := dk_181 1 35 (dk_at dksX5_passes_1 21 rfl rfl)
theorem dX5_passes_48 : decode cX5_passes 48 = .ok (.iload_n 2, 1) := dk_28 (dk_at dksX5_passes_2 0 rfl rfl)
theorem dX5_passes_49 : decode cX5_passes 49 = .ok (.ireturn, 1) := dk_172 (dk_at dksX5_passes_2 1 rfl rfl)
abbrev cX5_readsHeights : ByteArray := prog_13_method_87_code
def yX5_readsHeights : MethodName := ⟨RX5, "readsHeights", "()Z"⟩
def dkwX5_readsHeights_2 : List UInt8 := [132, 1, 1, 167, 255, 209, 4, 172]
abbrev dktX5_readsHeights_2 : List UInt8 := dkwX5_readsHeights_2 ++ []
def dkwX5_readsHeights_1 : List UInt8 := [182, 1, 53, 154, 0, 5, 3, 172, 42, 180, 0, 7, 16, 8, 27, 96, 42, 180, 1, 46, 133, 80]
abbrev dktX5_readsHeights_1 : List UInt8 := dkwX5_readsHeights_1 ++ dktX5_readsHeights_2
def dkwX5_readsHeights_0 : List UInt8 := [3, 60, 27, 42, 182, 0, 61, 162, 0, 45, 27, 158, 0, 12, 42, 16, 44, 182, 1, 59, 153, 0, 10, 42]
abbrev dktX5_readsHeights_0 : List UInt8 := dkwX5_readsHeights_0 ++ dktX5_readsHeights_1
theorem dksX5_readsHeights_0 : cX5_readsHeights.data.toList.drop 0 = dktX5_readsHeights_0 := by decide +kernel
theorem dksX5_readsHeights_1 : cX5_readsHeights.data.toList.drop 24 = dktX5_readsHeights_1 := dk_seg dksX5_readsHeights_0 24 rfl rfl
theorem dksX5_readsHeights_2 : cX5_readsHeights.data.toList.drop 46 = dktX5_readsHeights_2 := dk_seg dksX5_readsHeights_1 22 rfl rfl
theorem dX5_readsHeights_0 : decode cX5_readsHeights 0 = .ok (.iconst 0, 1) := dk_3 (dk_at dksX5_readsHeights_0 0 rfl rfl)
theorem dX5_readsHeights_1 : decode cX5_readsHeights 1 = .ok (.istore_n 1, 1) := dk_60 (dk_at dksX5_readsHeights_0 1 rfl rfl)
theorem dX5_readsHeights_2 : decode cX5_readsHeights 2 = .ok (.iload_n 1, 1) := dk_27 (dk_at dksX5_readsHeights_0 2 rfl rfl)
theorem dX5_readsHeights_3 : decode cX5_readsHeights 3 = .ok (.aload_n 0, 1) := dk_42 (dk_at dksX5_readsHeights_0 3 rfl rfl)
theorem dX5_readsHeights_4 : decode cX5_readsHeights 4 = .ok (.invokevirtual 61, 3) := dk_182 0 61 (dk_at dksX5_readsHeights_0 4 rfl rfl)
theorem dX5_readsHeights_7 : decode cX5_readsHeights 7 = .ok (.if_icmp .ge 45, 3) := dk_162 0 45 (dk_at dksX5_readsHeights_0 7 rfl rfl)
theorem dX5_readsHeights_10 : decode cX5_readsHeights 10 = .ok (.iload_n 1, 1) := dk_27 (dk_at dksX5_readsHeights_0 10 rfl rfl)
theorem dX5_readsHeights_11 : decode cX5_readsHeights 11 = .ok (.ifCond .le 12, 3) := dk_158 0 12 (dk_at dksX5_readsHeights_0 11 rfl rfl)
theorem dX5_readsHeights_14 : decode cX5_readsHeights 14 = .ok (.aload_n 0, 1) := dk_42 (dk_at dksX5_readsHeights_0 14 rfl rfl)
theorem dX5_readsHeights_15 : decode cX5_readsHeights 15 = .ok (.bipush 44, 2) := dk_16 44 (dk_at dksX5_readsHeights_0 15 rfl rfl)
theorem dX5_readsHeights_17 : decode cX5_readsHeights 17 = .ok (.invokevirtual 315, 3) := dk_182 1 59 (dk_at dksX5_readsHeights_0 17 rfl rfl)
theorem dX5_readsHeights_20 : decode cX5_readsHeights 20 = .ok (.ifCond .eq 10, 3) := dk_153 0 10 (dk_at dksX5_readsHeights_0 20 rfl rfl)
theorem dX5_readsHeights_23 : decode cX5_readsHeights 23 = .ok (.aload_n 0, 1) := dk_42 (dk_at dksX5_readsHeights_0 23 rfl rfl)
theorem dX5_readsHeights_24 : decode cX5_readsHeights 24 = .ok (.invokevirtual 309, 3) := dk_182 1 53 (dk_at dksX5_readsHeights_1 0 rfl rfl)
theorem dX5_readsHeights_27 : decode cX5_readsHeights 27 = .ok (.ifCond .ne 5, 3) := dk_154 0 5 (dk_at dksX5_readsHeights_1 3 rfl rfl)
theorem dX5_readsHeights_30 : decode cX5_readsHeights 30 = .ok (.iconst 0, 1) := dk_3 (dk_at dksX5_readsHeights_1 6 rfl rfl)
theorem dX5_readsHeights_31 : decode cX5_readsHeights 31 = .ok (.ireturn, 1) := dk_172 (dk_at dksX5_readsHeights_1 7 rfl rfl)
theorem dX5_readsHeights_32 : decode cX5_readsHeights 32 = .ok (.aload_n 0, 1) := dk_42 (dk_at dksX5_readsHeights_1 8 rfl rfl)
theorem dX5_readsHeights_33 : decode cX5_readsHeights 33 = .ok (.getfield 7, 3) := dk_180 0 7 (dk_at dksX5_readsHeights_1 9 rfl rfl)
theorem dX5_readsHeights_36 : decode cX5_readsHeights 36 = .ok (.bipush 8, 2) := dk_16 8 (dk_at dksX5_readsHeights_1 12 rfl rfl)
theorem dX5_readsHeights_38 : decode cX5_readsHeights 38 = .ok (.iload_n 1, 1) := dk_27 (dk_at dksX5_readsHeights_1 14 rfl rfl)
theorem dX5_readsHeights_39 : decode cX5_readsHeights 39 = .ok (.iadd, 1) := dk_96 (dk_at dksX5_readsHeights_1 15 rfl rfl)
theorem dX5_readsHeights_40 : decode cX5_readsHeights 40 = .ok (.aload_n 0, 1) := dk_42 (dk_at dksX5_readsHeights_1 16 rfl rfl)
theorem dX5_readsHeights_41 : decode cX5_readsHeights 41 = .ok (.getfield 302, 3) := dk_180 1 46 (dk_at dksX5_readsHeights_1 17 rfl rfl)
theorem dX5_readsHeights_44 : decode cX5_readsHeights 44 = .ok (.i2l, 1) := dk_133 (dk_at dksX5_readsHeights_1 20 rfl rfl)
theorem dX5_readsHeights_45 : decode cX5_readsHeights 45 = .ok (.lastore, 1) := dk_80 (dk_at dksX5_readsHeights_1 21 rfl rfl)
theorem dX5_readsHeights_46 : decode cX5_readsHeights 46 = .ok (.iinc 1 1, 3) := dk_132 1 1 (dk_at dksX5_readsHeights_2 0 rfl rfl)
theorem dX5_readsHeights_49 : decode cX5_readsHeights 49 = .ok (.goto (-47), 3) := dk_167 255 209 (dk_at dksX5_readsHeights_2 3 rfl rfl)
theorem dX5_readsHeights_52 : decode cX5_readsHeights 52 = .ok (.iconst 1, 1) := dk_4 (dk_at dksX5_readsHeights_2 6 rfl rfl)
theorem dX5_readsHeights_53 : decode cX5_readsHeights 53 = .ok (.ireturn, 1) := dk_172 (dk_at dksX5_readsHeights_2 7 rfl rfl)
abbrev cX5_readsNumber : ByteArray := prog_13_method_83_code
def yX5_readsNumber : MethodName := ⟨RX5, "readsNumber", "()Z"⟩
def dkwX5_readsNumber_3 : List UInt8 := [42, 182, 1, 49, 154, 0, 7, 4, 167, 0, 4, 3, 172]
abbrev dktX5_readsNumber_3 : List UInt8 := dkwX5_readsNumber_3 ++ []
def dkwX5_readsNumber_2 : List UInt8 := [181, 1, 46, 42, 89, 180, 1, 35, 4, 96, 181, 1, 35, 167, 255, 205, 42, 180, 1, 35, 27, 164, 0, 14]
abbrev dktX5_readsNumber_2 : List UInt8 := dkwX5_readsNumber_2 ++ dktX5_readsNumber_3
def dkwX5_readsNumber_1 : List UInt8 := [162, 0, 40, 42, 16, 10, 42, 180, 1, 46, 104, 42, 180, 0, 44, 42, 180, 1, 35, 46, 96, 16, 48, 100]
abbrev dktX5_readsNumber_1 : List UInt8 := dkwX5_readsNumber_1 ++ dktX5_readsNumber_2
def dkwX5_readsNumber_0 : List UInt8 := [42, 180, 1, 35, 60, 42, 3, 181, 1, 46, 42, 182, 1, 49, 153, 0, 50, 42, 180, 1, 35, 27, 5, 96]
abbrev dktX5_readsNumber_0 : List UInt8 := dkwX5_readsNumber_0 ++ dktX5_readsNumber_1
theorem dksX5_readsNumber_0 : cX5_readsNumber.data.toList.drop 0 = dktX5_readsNumber_0 := by decide +kernel
theorem dksX5_readsNumber_1 : cX5_readsNumber.data.toList.drop 24 = dktX5_readsNumber_1 := dk_seg dksX5_readsNumber_0 24 rfl rfl
theorem dksX5_readsNumber_2 : cX5_readsNumber.data.toList.drop 48 = dktX5_readsNumber_2 := dk_seg dksX5_readsNumber_1 24 rfl rfl
theorem dksX5_readsNumber_3 : cX5_readsNumber.data.toList.drop 72 = dktX5_readsNumber_3 := dk_seg dksX5_readsNumber_2 24 rfl rfl
theorem dX5_readsNumber_0 : decode cX5_readsNumber 0 = .ok (.aload_n 0, 1) := dk_42 (dk_at dksX5_readsNumber_0 0 rfl rfl)
theorem dX5_readsNumber_1 : decode cX5_readsNumber 1 = .ok (.getfield 291, 3) := dk_180 1 35 (dk_at dksX5_readsNumber_0 1 rfl rfl)
theorem dX5_readsNumber_4 : decode cX5_readsNumber 4 = .ok (.istore_n 1, 1) := dk_60 (dk_at dksX5_readsNumber_0 4 rfl rfl)
theorem dX5_readsNumber_5 : decode cX5_readsNumber 5 = .ok (.aload_n 0, 1) := dk_42 (dk_at dksX5_readsNumber_0 5 rfl rfl)
theorem dX5_readsNumber_6 : decode cX5_readsNumber 6 = .ok (.iconst 0, 1) := dk_3 (dk_at dksX5_readsNumber_0 6 rfl rfl)
theorem dX5_readsNumber_7 : decode cX5_readsNumber 7 = .ok (.putfield 302, 3) := dk_181 1 46 (dk_at dksX5_readsNumber_0 7 rfl rfl)
theorem dX5_readsNumber_10 : decode cX5_readsNumber 10 = .ok (.aload_n 0, 1) := dk_42 (dk_at dksX5_readsNumber_0 10 rfl rfl)
theorem dX5_readsNumber_11 : decode cX5_readsNumber 11 = .ok (.invokevirtual 305, 3) := dk_182 1 49 (dk_at dksX5_readsNumber_0 11 rfl rfl)
theorem dX5_readsNumber_14 : decode cX5_readsNumber 14 = .ok (.ifCond .eq 50, 3) := dk_153 0 50 (dk_at dksX5_readsNumber_0 14 rfl rfl)
theorem dX5_readsNumber_17 : decode cX5_readsNumber 17 = .ok (.aload_n 0, 1) := dk_42 (dk_at dksX5_readsNumber_0 17 rfl rfl)
theorem dX5_readsNumber_18 : decode cX5_readsNumber 18 = .ok (.getfield 291, 3) := dk_180 1 35 (dk_at dksX5_readsNumber_0 18 rfl rfl)
theorem dX5_readsNumber_21 : decode cX5_readsNumber 21 = .ok (.iload_n 1, 1) := dk_27 (dk_at dksX5_readsNumber_0 21 rfl rfl)
theorem dX5_readsNumber_22 : decode cX5_readsNumber 22 = .ok (.iconst 2, 1) := dk_5 (dk_at dksX5_readsNumber_0 22 rfl rfl)
theorem dX5_readsNumber_23 : decode cX5_readsNumber 23 = .ok (.iadd, 1) := dk_96 (dk_at dksX5_readsNumber_0 23 rfl rfl)
theorem dX5_readsNumber_24 : decode cX5_readsNumber 24 = .ok (.if_icmp .ge 40, 3) := dk_162 0 40 (dk_at dksX5_readsNumber_1 0 rfl rfl)
theorem dX5_readsNumber_27 : decode cX5_readsNumber 27 = .ok (.aload_n 0, 1) := dk_42 (dk_at dksX5_readsNumber_1 3 rfl rfl)
theorem dX5_readsNumber_28 : decode cX5_readsNumber 28 = .ok (.bipush 10, 2) := dk_16 10 (dk_at dksX5_readsNumber_1 4 rfl rfl)
theorem dX5_readsNumber_30 : decode cX5_readsNumber 30 = .ok (.aload_n 0, 1) := dk_42 (dk_at dksX5_readsNumber_1 6 rfl rfl)
theorem dX5_readsNumber_31 : decode cX5_readsNumber 31 = .ok (.getfield 302, 3) := dk_180 1 46 (dk_at dksX5_readsNumber_1 7 rfl rfl)
theorem dX5_readsNumber_34 : decode cX5_readsNumber 34 = .ok (.imul, 1) := dk_104 (dk_at dksX5_readsNumber_1 10 rfl rfl)
theorem dX5_readsNumber_35 : decode cX5_readsNumber 35 = .ok (.aload_n 0, 1) := dk_42 (dk_at dksX5_readsNumber_1 11 rfl rfl)
theorem dX5_readsNumber_36 : decode cX5_readsNumber 36 = .ok (.getfield 44, 3) := dk_180 0 44 (dk_at dksX5_readsNumber_1 12 rfl rfl)
theorem dX5_readsNumber_39 : decode cX5_readsNumber 39 = .ok (.aload_n 0, 1) := dk_42 (dk_at dksX5_readsNumber_1 15 rfl rfl)
theorem dX5_readsNumber_40 : decode cX5_readsNumber 40 = .ok (.getfield 291, 3) := dk_180 1 35 (dk_at dksX5_readsNumber_1 16 rfl rfl)
theorem dX5_readsNumber_43 : decode cX5_readsNumber 43 = .ok (.iaload, 1) := dk_46 (dk_at dksX5_readsNumber_1 19 rfl rfl)
theorem dX5_readsNumber_44 : decode cX5_readsNumber 44 = .ok (.iadd, 1) := dk_96 (dk_at dksX5_readsNumber_1 20 rfl rfl)
theorem dX5_readsNumber_45 : decode cX5_readsNumber 45 = .ok (.bipush 48, 2) := dk_16 48 (dk_at dksX5_readsNumber_1 21 rfl rfl)
theorem dX5_readsNumber_47 : decode cX5_readsNumber 47 = .ok (.isub, 1) := dk_100 (dk_at dksX5_readsNumber_1 23 rfl rfl)
theorem dX5_readsNumber_48 : decode cX5_readsNumber 48 = .ok (.putfield 302, 3) := dk_181 1 46 (dk_at dksX5_readsNumber_2 0 rfl rfl)
theorem dX5_readsNumber_51 : decode cX5_readsNumber 51 = .ok (.aload_n 0, 1) := dk_42 (dk_at dksX5_readsNumber_2 3 rfl rfl)
theorem dX5_readsNumber_52 : decode cX5_readsNumber 52 = .ok (.dup, 1) := dk_89 (dk_at dksX5_readsNumber_2 4 rfl rfl)
theorem dX5_readsNumber_53 : decode cX5_readsNumber 53 = .ok (.getfield 291, 3) := dk_180 1 35 (dk_at dksX5_readsNumber_2 5 rfl rfl)
theorem dX5_readsNumber_56 : decode cX5_readsNumber 56 = .ok (.iconst 1, 1) := dk_4 (dk_at dksX5_readsNumber_2 8 rfl rfl)
theorem dX5_readsNumber_57 : decode cX5_readsNumber 57 = .ok (.iadd, 1) := dk_96 (dk_at dksX5_readsNumber_2 9 rfl rfl)
theorem dX5_readsNumber_58 : decode cX5_readsNumber 58 = .ok (.putfield 291, 3) := dk_181 1 35 (dk_at dksX5_readsNumber_2 10 rfl rfl)
theorem dX5_readsNumber_61 : decode cX5_readsNumber 61 = .ok (.goto (-51), 3) := dk_167 255 205 (dk_at dksX5_readsNumber_2 13 rfl rfl)
theorem dX5_readsNumber_64 : decode cX5_readsNumber 64 = .ok (.aload_n 0, 1) := dk_42 (dk_at dksX5_readsNumber_2 16 rfl rfl)
theorem dX5_readsNumber_65 : decode cX5_readsNumber 65 = .ok (.getfield 291, 3) := dk_180 1 35 (dk_at dksX5_readsNumber_2 17 rfl rfl)
theorem dX5_readsNumber_68 : decode cX5_readsNumber 68 = .ok (.iload_n 1, 1) := dk_27 (dk_at dksX5_readsNumber_2 20 rfl rfl)
theorem dX5_readsNumber_69 : decode cX5_readsNumber 69 = .ok (.if_icmp .le 14, 3) := dk_164 0 14 (dk_at dksX5_readsNumber_2 21 rfl rfl)
theorem dX5_readsNumber_72 : decode cX5_readsNumber 72 = .ok (.aload_n 0, 1) := dk_42 (dk_at dksX5_readsNumber_3 0 rfl rfl)
theorem dX5_readsNumber_73 : decode cX5_readsNumber 73 = .ok (.invokevirtual 305, 3) := dk_182 1 49 (dk_at dksX5_readsNumber_3 1 rfl rfl)
theorem dX5_readsNumber_76 : decode cX5_readsNumber 76 = .ok (.ifCond .ne 7, 3) := dk_154 0 7 (dk_at dksX5_readsNumber_3 4 rfl rfl)
theorem dX5_readsNumber_79 : decode cX5_readsNumber 79 = .ok (.iconst 1, 1) := dk_4 (dk_at dksX5_readsNumber_3 7 rfl rfl)
theorem dX5_readsNumber_80 : decode cX5_readsNumber 80 = .ok (.goto 4, 3) := dk_167 0 4 (dk_at dksX5_readsNumber_3 8 rfl rfl)
theorem dX5_readsNumber_83 : decode cX5_readsNumber 83 = .ok (.iconst 0, 1) := dk_3 (dk_at dksX5_readsNumber_3 11 rfl rfl)
theorem dX5_readsNumber_84 : decode cX5_readsNumber 84 = .ok (.ireturn, 1) := dk_172 (dk_at dksX5_readsNumber_3 12 rfl rfl)
abbrev cX5_isFigure : ByteArray := prog_13_method_80_code
def yX5_isFigure : MethodName := ⟨RX5, "isFigure", "()Z"⟩
def dkwX5_isFigure_1 : List UInt8 := [20, 1, 40, 184, 0, 65, 153, 0, 7, 4, 167, 0, 4, 3, 172]
abbrev dktX5_isFigure_1 : List UInt8 := dkwX5_isFigure_1 ++ []
def dkwX5_isFigure_0 : List UInt8 := [42, 180, 1, 35, 42, 180, 1, 32, 162, 0, 29, 42, 180, 0, 44, 42, 180, 1, 35, 46, 133, 20, 1, 38]
abbrev dktX5_isFigure_0 : List UInt8 := dkwX5_isFigure_0 ++ dktX5_isFigure_1
theorem dksX5_isFigure_0 : cX5_isFigure.data.toList.drop 0 = dktX5_isFigure_0 := by decide +kernel
theorem dksX5_isFigure_1 : cX5_isFigure.data.toList.drop 24 = dktX5_isFigure_1 := dk_seg dksX5_isFigure_0 24 rfl rfl
theorem dX5_isFigure_0 : decode cX5_isFigure 0 = .ok (.aload_n 0, 1) := dk_42 (dk_at dksX5_isFigure_0 0 rfl rfl)
theorem dX5_isFigure_1 : decode cX5_isFigure 1 = .ok (.getfield 291, 3) := dk_180 1 35 (dk_at dksX5_isFigure_0 1 rfl rfl)
theorem dX5_isFigure_4 : decode cX5_isFigure 4 = .ok (.aload_n 0, 1) := dk_42 (dk_at dksX5_isFigure_0 4 rfl rfl)
theorem dX5_isFigure_5 : decode cX5_isFigure 5 = .ok (.getfield 288, 3) := dk_180 1 32 (dk_at dksX5_isFigure_0 5 rfl rfl)
theorem dX5_isFigure_8 : decode cX5_isFigure 8 = .ok (.if_icmp .ge 29, 3) := dk_162 0 29 (dk_at dksX5_isFigure_0 8 rfl rfl)
theorem dX5_isFigure_11 : decode cX5_isFigure 11 = .ok (.aload_n 0, 1) := dk_42 (dk_at dksX5_isFigure_0 11 rfl rfl)
theorem dX5_isFigure_12 : decode cX5_isFigure 12 = .ok (.getfield 44, 3) := dk_180 0 44 (dk_at dksX5_isFigure_0 12 rfl rfl)
theorem dX5_isFigure_15 : decode cX5_isFigure 15 = .ok (.aload_n 0, 1) := dk_42 (dk_at dksX5_isFigure_0 15 rfl rfl)
theorem dX5_isFigure_16 : decode cX5_isFigure 16 = .ok (.getfield 291, 3) := dk_180 1 35 (dk_at dksX5_isFigure_0 16 rfl rfl)
theorem dX5_isFigure_19 : decode cX5_isFigure 19 = .ok (.iaload, 1) := dk_46 (dk_at dksX5_isFigure_0 19 rfl rfl)
theorem dX5_isFigure_20 : decode cX5_isFigure 20 = .ok (.i2l, 1) := dk_133 (dk_at dksX5_isFigure_0 20 rfl rfl)
theorem dX5_isFigure_21 : decode cX5_isFigure 21 = .ok (.ldc2_w 294, 3) := dk_20 1 38 (dk_at dksX5_isFigure_0 21 rfl rfl)
theorem dX5_isFigure_24 : decode cX5_isFigure 24 = .ok (.ldc2_w 296, 3) := dk_20 1 40 (dk_at dksX5_isFigure_1 0 rfl rfl)
theorem dX5_isFigure_27 : decode cX5_isFigure 27 = .ok (.invokestatic 65, 3) := dk_184 0 65 (dk_at dksX5_isFigure_1 3 rfl rfl)
theorem dX5_isFigure_30 : decode cX5_isFigure 30 = .ok (.ifCond .eq 7, 3) := dk_153 0 7 (dk_at dksX5_isFigure_1 6 rfl rfl)
theorem dX5_isFigure_33 : decode cX5_isFigure 33 = .ok (.iconst 1, 1) := dk_4 (dk_at dksX5_isFigure_1 9 rfl rfl)
theorem dX5_isFigure_34 : decode cX5_isFigure 34 = .ok (.goto 4, 3) := dk_167 0 4 (dk_at dksX5_isFigure_1 10 rfl rfl)
theorem dX5_isFigure_37 : decode cX5_isFigure 37 = .ok (.iconst 0, 1) := dk_3 (dk_at dksX5_isFigure_1 13 rfl rfl)
theorem dX5_isFigure_38 : decode cX5_isFigure 38 = .ok (.ireturn, 1) := dk_172 (dk_at dksX5_isFigure_1 14 rfl rfl)
abbrev cX5_readsDrain : ByteArray := prog_13_method_86_code
def yX5_readsDrain : MethodName := ⟨RX5, "readsDrain", "()Z"⟩
def dkwX5_readsDrain_1 : List UInt8 := [167, 0, 4, 9, 129, 80, 27, 172]
abbrev dktX5_readsDrain_1 : List UInt8 := dkwX5_readsDrain_1 ++ []
def dkwX5_readsDrain_0 : List UInt8 := [42, 2, 182, 1, 56, 60, 42, 180, 0, 7, 5, 92, 47, 27, 153, 0, 12, 10, 42, 180, 1, 46, 121]
abbrev dktX5_readsDrain_0 : List UInt8 := dkwX5_readsDrain_0 ++ dktX5_readsDrain_1
theorem dksX5_readsDrain_0 : cX5_readsDrain.data.toList.drop 0 = dktX5_readsDrain_0 := by decide +kernel
theorem dksX5_readsDrain_1 : cX5_readsDrain.data.toList.drop 23 = dktX5_readsDrain_1 := dk_seg dksX5_readsDrain_0 23 rfl rfl
theorem dX5_readsDrain_0 : decode cX5_readsDrain 0 = .ok (.aload_n 0, 1) := dk_42 (dk_at dksX5_readsDrain_0 0 rfl rfl)
theorem dX5_readsDrain_1 : decode cX5_readsDrain 1 = .ok (.iconst (-1), 1) := dk_2 (dk_at dksX5_readsDrain_0 1 rfl rfl)
theorem dX5_readsDrain_2 : decode cX5_readsDrain 2 = .ok (.invokevirtual 312, 3) := dk_182 1 56 (dk_at dksX5_readsDrain_0 2 rfl rfl)
theorem dX5_readsDrain_5 : decode cX5_readsDrain 5 = .ok (.istore_n 1, 1) := dk_60 (dk_at dksX5_readsDrain_0 5 rfl rfl)
theorem dX5_readsDrain_6 : decode cX5_readsDrain 6 = .ok (.aload_n 0, 1) := dk_42 (dk_at dksX5_readsDrain_0 6 rfl rfl)
theorem dX5_readsDrain_7 : decode cX5_readsDrain 7 = .ok (.getfield 7, 3) := dk_180 0 7 (dk_at dksX5_readsDrain_0 7 rfl rfl)
theorem dX5_readsDrain_10 : decode cX5_readsDrain 10 = .ok (.iconst 2, 1) := dk_5 (dk_at dksX5_readsDrain_0 10 rfl rfl)
theorem dX5_readsDrain_11 : decode cX5_readsDrain 11 = .ok (.dup2, 1) := dk_92 (dk_at dksX5_readsDrain_0 11 rfl rfl)
theorem dX5_readsDrain_12 : decode cX5_readsDrain 12 = .ok (.laload, 1) := dk_47 (dk_at dksX5_readsDrain_0 12 rfl rfl)
theorem dX5_readsDrain_13 : decode cX5_readsDrain 13 = .ok (.iload_n 1, 1) := dk_27 (dk_at dksX5_readsDrain_0 13 rfl rfl)
theorem dX5_readsDrain_14 : decode cX5_readsDrain 14 = .ok (.ifCond .eq 12, 3) := dk_153 0 12 (dk_at dksX5_readsDrain_0 14 rfl rfl)
theorem dX5_readsDrain_17 : decode cX5_readsDrain 17 = .ok (.lconst 1, 1) := dk_10 (dk_at dksX5_readsDrain_0 17 rfl rfl)
theorem dX5_readsDrain_18 : decode cX5_readsDrain 18 = .ok (.aload_n 0, 1) := dk_42 (dk_at dksX5_readsDrain_0 18 rfl rfl)
theorem dX5_readsDrain_19 : decode cX5_readsDrain 19 = .ok (.getfield 302, 3) := dk_180 1 46 (dk_at dksX5_readsDrain_0 19 rfl rfl)
theorem dX5_readsDrain_22 : decode cX5_readsDrain 22 = .ok (.lshl, 1) := dk_121 (dk_at dksX5_readsDrain_0 22 rfl rfl)
theorem dX5_readsDrain_23 : decode cX5_readsDrain 23 = .ok (.goto 4, 3) := dk_167 0 4 (dk_at dksX5_readsDrain_1 0 rfl rfl)
theorem dX5_readsDrain_26 : decode cX5_readsDrain 26 = .ok (.lconst 0, 1) := dk_9 (dk_at dksX5_readsDrain_1 3 rfl rfl)
theorem dX5_readsDrain_27 : decode cX5_readsDrain 27 = .ok (.lor, 1) := dk_129 (dk_at dksX5_readsDrain_1 4 rfl rfl)
theorem dX5_readsDrain_28 : decode cX5_readsDrain 28 = .ok (.lastore, 1) := dk_80 (dk_at dksX5_readsDrain_1 5 rfl rfl)
theorem dX5_readsDrain_29 : decode cX5_readsDrain 29 = .ok (.iload_n 1, 1) := dk_27 (dk_at dksX5_readsDrain_1 6 rfl rfl)
theorem dX5_readsDrain_30 : decode cX5_readsDrain 30 = .ok (.ireturn, 1) := dk_172 (dk_at dksX5_readsDrain_1 7 rfl rfl)
abbrev cX5_readsCell : ByteArray := prog_13_method_84_code
def yX5_readsCell : MethodName := ⟨RX5, "readsCell", "(I)Z"⟩
def dkwX5_readsCell_2 : List UInt8 := [3, 62, 42, 29, 153, 0, 10, 42, 180, 1, 35, 167, 0, 4, 28, 181, 1, 35, 29, 172]
abbrev dktX5_readsCell_2 : List UInt8 := dkwX5_readsCell_2 ++ []
def dkwX5_readsCell_1 : List UInt8 := [153, 0, 24, 27, 2, 159, 0, 15, 42, 27, 42, 180, 1, 46, 182, 0, 77, 153, 0, 7, 4, 167, 0, 4]
abbrev dktX5_readsCell_1 : List UInt8 := dkwX5_readsCell_1 ++ dktX5_readsCell_2
def dkwX5_readsCell_0 : List UInt8 := [42, 180, 1, 35, 61, 42, 182, 1, 53, 154, 0, 5, 3, 172, 42, 42, 180, 1, 46, 182, 0, 73]
abbrev dktX5_readsCell_0 : List UInt8 := dkwX5_readsCell_0 ++ dktX5_readsCell_1
theorem dksX5_readsCell_0 : cX5_readsCell.data.toList.drop 0 = dktX5_readsCell_0 := by decide +kernel
theorem dksX5_readsCell_1 : cX5_readsCell.data.toList.drop 22 = dktX5_readsCell_1 := dk_seg dksX5_readsCell_0 22 rfl rfl
theorem dksX5_readsCell_2 : cX5_readsCell.data.toList.drop 46 = dktX5_readsCell_2 := dk_seg dksX5_readsCell_1 24 rfl rfl
theorem dX5_readsCell_0 : decode cX5_readsCell 0 = .ok (.aload_n 0, 1) := dk_42 (dk_at dksX5_readsCell_0 0 rfl rfl)
theorem dX5_readsCell_1 : decode cX5_readsCell 1 = .ok (.getfield 291, 3) := dk_180 1 35 (dk_at dksX5_readsCell_0 1 rfl rfl)
theorem dX5_readsCell_4 : decode cX5_readsCell 4 = .ok (.istore_n 2, 1) := dk_61 (dk_at dksX5_readsCell_0 4 rfl rfl)
theorem dX5_readsCell_5 : decode cX5_readsCell 5 = .ok (.aload_n 0, 1) := dk_42 (dk_at dksX5_readsCell_0 5 rfl rfl)
theorem dX5_readsCell_6 : decode cX5_readsCell 6 = .ok (.invokevirtual 309, 3) := dk_182 1 53 (dk_at dksX5_readsCell_0 6 rfl rfl)
theorem dX5_readsCell_9 : decode cX5_readsCell 9 = .ok (.ifCond .ne 5, 3) := dk_154 0 5 (dk_at dksX5_readsCell_0 9 rfl rfl)
theorem dX5_readsCell_12 : decode cX5_readsCell 12 = .ok (.iconst 0, 1) := dk_3 (dk_at dksX5_readsCell_0 12 rfl rfl)
theorem dX5_readsCell_13 : decode cX5_readsCell 13 = .ok (.ireturn, 1) := dk_172 (dk_at dksX5_readsCell_0 13 rfl rfl)
theorem dX5_readsCell_14 : decode cX5_readsCell 14 = .ok (.aload_n 0, 1) := dk_42 (dk_at dksX5_readsCell_0 14 rfl rfl)
theorem dX5_readsCell_15 : decode cX5_readsCell 15 = .ok (.aload_n 0, 1) := dk_42 (dk_at dksX5_readsCell_0 15 rfl rfl)
theorem dX5_readsCell_16 : decode cX5_readsCell 16 = .ok (.getfield 302, 3) := dk_180 1 46 (dk_at dksX5_readsCell_0 16 rfl rfl)
theorem dX5_readsCell_19 : decode cX5_readsCell 19 = .ok (.invokevirtual 73, 3) := dk_182 0 73 (dk_at dksX5_readsCell_0 19 rfl rfl)
theorem dX5_readsCell_22 : decode cX5_readsCell 22 = .ok (.ifCond .eq 24, 3) := dk_153 0 24 (dk_at dksX5_readsCell_1 0 rfl rfl)
theorem dX5_readsCell_25 : decode cX5_readsCell 25 = .ok (.iload_n 1, 1) := dk_27 (dk_at dksX5_readsCell_1 3 rfl rfl)
theorem dX5_readsCell_26 : decode cX5_readsCell 26 = .ok (.iconst (-1), 1) := dk_2 (dk_at dksX5_readsCell_1 4 rfl rfl)
theorem dX5_readsCell_27 : decode cX5_readsCell 27 = .ok (.if_icmp .eq 15, 3) := dk_159 0 15 (dk_at dksX5_readsCell_1 5 rfl rfl)
theorem dX5_readsCell_30 : decode cX5_readsCell 30 = .ok (.aload_n 0, 1) := dk_42 (dk_at dksX5_readsCell_1 8 rfl rfl)
theorem dX5_readsCell_31 : decode cX5_readsCell 31 = .ok (.iload_n 1, 1) := dk_27 (dk_at dksX5_readsCell_1 9 rfl rfl)
theorem dX5_readsCell_32 : decode cX5_readsCell 32 = .ok (.aload_n 0, 1) := dk_42 (dk_at dksX5_readsCell_1 10 rfl rfl)
theorem dX5_readsCell_33 : decode cX5_readsCell 33 = .ok (.getfield 302, 3) := dk_180 1 46 (dk_at dksX5_readsCell_1 11 rfl rfl)
theorem dX5_readsCell_36 : decode cX5_readsCell 36 = .ok (.invokevirtual 77, 3) := dk_182 0 77 (dk_at dksX5_readsCell_1 14 rfl rfl)
theorem dX5_readsCell_39 : decode cX5_readsCell 39 = .ok (.ifCond .eq 7, 3) := dk_153 0 7 (dk_at dksX5_readsCell_1 17 rfl rfl)
theorem dX5_readsCell_42 : decode cX5_readsCell 42 = .ok (.iconst 1, 1) := dk_4 (dk_at dksX5_readsCell_1 20 rfl rfl)
theorem dX5_readsCell_43 : decode cX5_readsCell 43 = .ok (.goto 4, 3) := dk_167 0 4 (dk_at dksX5_readsCell_1 21 rfl rfl)
theorem dX5_readsCell_46 : decode cX5_readsCell 46 = .ok (.iconst 0, 1) := dk_3 (dk_at dksX5_readsCell_2 0 rfl rfl)
theorem dX5_readsCell_47 : decode cX5_readsCell 47 = .ok (.istore_n 3, 1) := dk_62 (dk_at dksX5_readsCell_2 1 rfl rfl)
theorem dX5_readsCell_48 : decode cX5_readsCell 48 = .ok (.aload_n 0, 1) := dk_42 (dk_at dksX5_readsCell_2 2 rfl rfl)
theorem dX5_readsCell_49 : decode cX5_readsCell 49 = .ok (.iload_n 3, 1) := dk_29 (dk_at dksX5_readsCell_2 3 rfl rfl)
theorem dX5_readsCell_50 : decode cX5_readsCell 50 = .ok (.ifCond .eq 10, 3) := dk_153 0 10 (dk_at dksX5_readsCell_2 4 rfl rfl)
theorem dX5_readsCell_53 : decode cX5_readsCell 53 = .ok (.aload_n 0, 1) := dk_42 (dk_at dksX5_readsCell_2 7 rfl rfl)
theorem dX5_readsCell_54 : decode cX5_readsCell 54 = .ok (.getfield 291, 3) := dk_180 1 35 (dk_at dksX5_readsCell_2 8 rfl rfl)
theorem dX5_readsCell_57 : decode cX5_readsCell 57 = .ok (.goto 4, 3) := dk_167 0 4 (dk_at dksX5_readsCell_2 11 rfl rfl)
theorem dX5_readsCell_60 : decode cX5_readsCell 60 = .ok (.iload_n 2, 1) := dk_28 (dk_at dksX5_readsCell_2 14 rfl rfl)
theorem dX5_readsCell_61 : decode cX5_readsCell 61 = .ok (.putfield 291, 3) := dk_181 1 35 (dk_at dksX5_readsCell_2 15 rfl rfl)
theorem dX5_readsCell_64 : decode cX5_readsCell 64 = .ok (.iload_n 3, 1) := dk_29 (dk_at dksX5_readsCell_2 18 rfl rfl)
theorem dX5_readsCell_65 : decode cX5_readsCell 65 = .ok (.ireturn, 1) := dk_172 (dk_at dksX5_readsCell_2 19 rfl rfl)
abbrev cX5_readsGate : ByteArray := prog_13_method_85_code
def yX5_readsGate : MethodName := ⟨RX5, "readsGate", "()Z"⟩
def dkwX5_readsGate_3 : List UInt8 := [80, 4, 172]
abbrev dktX5_readsGate_3 : List UInt8 := dkwX5_readsGate_3 ++ []
def dkwX5_readsGate_2 : List UInt8 := [42, 182, 1, 53, 154, 0, 5, 3, 172, 42, 180, 0, 7, 42, 27, 28, 182, 0, 81, 42, 180, 1, 46, 133]
abbrev dktX5_readsGate_2 : List UInt8 := dkwX5_readsGate_2 ++ dktX5_readsGate_3
def dkwX5_readsGate_1 : List UInt8 := [42, 27, 182, 1, 56, 154, 0, 5, 3, 172, 42, 180, 1, 46, 61, 42, 16, 44, 182, 1, 59, 153, 0, 10]
abbrev dktX5_readsGate_1 : List UInt8 := dkwX5_readsGate_1 ++ dktX5_readsGate_2
def dkwX5_readsGate_0 : List UInt8 := [42, 2, 182, 1, 56, 154, 0, 5, 3, 172, 42, 180, 1, 46, 60, 42, 16, 44, 182, 1, 59, 153, 0, 11]
abbrev dktX5_readsGate_0 : List UInt8 := dkwX5_readsGate_0 ++ dktX5_readsGate_1
theorem dksX5_readsGate_0 : cX5_readsGate.data.toList.drop 0 = dktX5_readsGate_0 := by decide +kernel
theorem dksX5_readsGate_1 : cX5_readsGate.data.toList.drop 24 = dktX5_readsGate_1 := dk_seg dksX5_readsGate_0 24 rfl rfl
theorem dksX5_readsGate_2 : cX5_readsGate.data.toList.drop 48 = dktX5_readsGate_2 := dk_seg dksX5_readsGate_1 24 rfl rfl
theorem dksX5_readsGate_3 : cX5_readsGate.data.toList.drop 72 = dktX5_readsGate_3 := dk_seg dksX5_readsGate_2 24 rfl rfl
theorem dX5_readsGate_0 : decode cX5_readsGate 0 = .ok (.aload_n 0, 1) := dk_42 (dk_at dksX5_readsGate_0 0 rfl rfl)
theorem dX5_readsGate_1 : decode cX5_readsGate 1 = .ok (.iconst (-1), 1) := dk_2 (dk_at dksX5_readsGate_0 1 rfl rfl)
theorem dX5_readsGate_2 : decode cX5_readsGate 2 = .ok (.invokevirtual 312, 3) := dk_182 1 56 (dk_at dksX5_readsGate_0 2 rfl rfl)
theorem dX5_readsGate_5 : decode cX5_readsGate 5 = .ok (.ifCond .ne 5, 3) := dk_154 0 5 (dk_at dksX5_readsGate_0 5 rfl rfl)
theorem dX5_readsGate_8 : decode cX5_readsGate 8 = .ok (.iconst 0, 1) := dk_3 (dk_at dksX5_readsGate_0 8 rfl rfl)
theorem dX5_readsGate_9 : decode cX5_readsGate 9 = .ok (.ireturn, 1) := dk_172 (dk_at dksX5_readsGate_0 9 rfl rfl)
theorem dX5_readsGate_10 : decode cX5_readsGate 10 = .ok (.aload_n 0, 1) := dk_42 (dk_at dksX5_readsGate_0 10 rfl rfl)
theorem dX5_readsGate_11 : decode cX5_readsGate 11 = .ok (.getfield 302, 3) := dk_180 1 46 (dk_at dksX5_readsGate_0 11 rfl rfl)
theorem dX5_readsGate_14 : decode cX5_readsGate 14 = .ok (.istore_n 1, 1) := dk_60 (dk_at dksX5_readsGate_0 14 rfl rfl)
theorem dX5_readsGate_15 : decode cX5_readsGate 15 = .ok (.aload_n 0, 1) := dk_42 (dk_at dksX5_readsGate_0 15 rfl rfl)
theorem dX5_readsGate_16 : decode cX5_readsGate 16 = .ok (.bipush 44, 2) := dk_16 44 (dk_at dksX5_readsGate_0 16 rfl rfl)
theorem dX5_readsGate_18 : decode cX5_readsGate 18 = .ok (.invokevirtual 315, 3) := dk_182 1 59 (dk_at dksX5_readsGate_0 18 rfl rfl)
theorem dX5_readsGate_21 : decode cX5_readsGate 21 = .ok (.ifCond .eq 11, 3) := dk_153 0 11 (dk_at dksX5_readsGate_0 21 rfl rfl)
theorem dX5_readsGate_24 : decode cX5_readsGate 24 = .ok (.aload_n 0, 1) := dk_42 (dk_at dksX5_readsGate_1 0 rfl rfl)
theorem dX5_readsGate_25 : decode cX5_readsGate 25 = .ok (.iload_n 1, 1) := dk_27 (dk_at dksX5_readsGate_1 1 rfl rfl)
theorem dX5_readsGate_26 : decode cX5_readsGate 26 = .ok (.invokevirtual 312, 3) := dk_182 1 56 (dk_at dksX5_readsGate_1 2 rfl rfl)
theorem dX5_readsGate_29 : decode cX5_readsGate 29 = .ok (.ifCond .ne 5, 3) := dk_154 0 5 (dk_at dksX5_readsGate_1 5 rfl rfl)
theorem dX5_readsGate_32 : decode cX5_readsGate 32 = .ok (.iconst 0, 1) := dk_3 (dk_at dksX5_readsGate_1 8 rfl rfl)
theorem dX5_readsGate_33 : decode cX5_readsGate 33 = .ok (.ireturn, 1) := dk_172 (dk_at dksX5_readsGate_1 9 rfl rfl)
theorem dX5_readsGate_34 : decode cX5_readsGate 34 = .ok (.aload_n 0, 1) := dk_42 (dk_at dksX5_readsGate_1 10 rfl rfl)
theorem dX5_readsGate_35 : decode cX5_readsGate 35 = .ok (.getfield 302, 3) := dk_180 1 46 (dk_at dksX5_readsGate_1 11 rfl rfl)
theorem dX5_readsGate_38 : decode cX5_readsGate 38 = .ok (.istore_n 2, 1) := dk_61 (dk_at dksX5_readsGate_1 14 rfl rfl)
theorem dX5_readsGate_39 : decode cX5_readsGate 39 = .ok (.aload_n 0, 1) := dk_42 (dk_at dksX5_readsGate_1 15 rfl rfl)
theorem dX5_readsGate_40 : decode cX5_readsGate 40 = .ok (.bipush 44, 2) := dk_16 44 (dk_at dksX5_readsGate_1 16 rfl rfl)
theorem dX5_readsGate_42 : decode cX5_readsGate 42 = .ok (.invokevirtual 315, 3) := dk_182 1 59 (dk_at dksX5_readsGate_1 18 rfl rfl)
theorem dX5_readsGate_45 : decode cX5_readsGate 45 = .ok (.ifCond .eq 10, 3) := dk_153 0 10 (dk_at dksX5_readsGate_1 21 rfl rfl)
theorem dX5_readsGate_48 : decode cX5_readsGate 48 = .ok (.aload_n 0, 1) := dk_42 (dk_at dksX5_readsGate_2 0 rfl rfl)
theorem dX5_readsGate_49 : decode cX5_readsGate 49 = .ok (.invokevirtual 309, 3) := dk_182 1 53 (dk_at dksX5_readsGate_2 1 rfl rfl)
theorem dX5_readsGate_52 : decode cX5_readsGate 52 = .ok (.ifCond .ne 5, 3) := dk_154 0 5 (dk_at dksX5_readsGate_2 4 rfl rfl)
theorem dX5_readsGate_55 : decode cX5_readsGate 55 = .ok (.iconst 0, 1) := dk_3 (dk_at dksX5_readsGate_2 7 rfl rfl)
theorem dX5_readsGate_56 : decode cX5_readsGate 56 = .ok (.ireturn, 1) := dk_172 (dk_at dksX5_readsGate_2 8 rfl rfl)
theorem dX5_readsGate_57 : decode cX5_readsGate 57 = .ok (.aload_n 0, 1) := dk_42 (dk_at dksX5_readsGate_2 9 rfl rfl)
theorem dX5_readsGate_58 : decode cX5_readsGate 58 = .ok (.getfield 7, 3) := dk_180 0 7 (dk_at dksX5_readsGate_2 10 rfl rfl)
theorem dX5_readsGate_61 : decode cX5_readsGate 61 = .ok (.aload_n 0, 1) := dk_42 (dk_at dksX5_readsGate_2 13 rfl rfl)
theorem dX5_readsGate_62 : decode cX5_readsGate 62 = .ok (.iload_n 1, 1) := dk_27 (dk_at dksX5_readsGate_2 14 rfl rfl)
theorem dX5_readsGate_63 : decode cX5_readsGate 63 = .ok (.iload_n 2, 1) := dk_28 (dk_at dksX5_readsGate_2 15 rfl rfl)
theorem dX5_readsGate_64 : decode cX5_readsGate 64 = .ok (.invokevirtual 81, 3) := dk_182 0 81 (dk_at dksX5_readsGate_2 16 rfl rfl)
theorem dX5_readsGate_67 : decode cX5_readsGate 67 = .ok (.aload_n 0, 1) := dk_42 (dk_at dksX5_readsGate_2 19 rfl rfl)
theorem dX5_readsGate_68 : decode cX5_readsGate 68 = .ok (.getfield 302, 3) := dk_180 1 46 (dk_at dksX5_readsGate_2 20 rfl rfl)
theorem dX5_readsGate_71 : decode cX5_readsGate 71 = .ok (.i2l, 1) := dk_133 (dk_at dksX5_readsGate_2 23 rfl rfl)
theorem dX5_readsGate_72 : decode cX5_readsGate 72 = .ok (.lastore, 1) := dk_80 (dk_at dksX5_readsGate_3 0 rfl rfl)
theorem dX5_readsGate_73 : decode cX5_readsGate 73 = .ok (.iconst 1, 1) := dk_4 (dk_at dksX5_readsGate_3 1 rfl rfl)
theorem dX5_readsGate_74 : decode cX5_readsGate 74 = .ok (.ireturn, 1) := dk_172 (dk_at dksX5_readsGate_3 2 rfl rfl)
abbrev cX5_undo : ByteArray := prog_13_method_90_code
def yX5_undo : MethodName := ⟨RX5, "undo", "()I"⟩
def dkwX5_undo_3 : List UInt8 := [180, 0, 58, 172]
abbrev dktX5_undo_3 : List UInt8 := dkwX5_undo_3 ++ []
def dkwX5_undo_2 : List UInt8 := [180, 0, 13, 17, 2, 1, 42, 180, 0, 58, 104, 27, 96, 47, 80, 132, 1, 1, 167, 255, 225, 42]
abbrev dktX5_undo_2 : List UInt8 := dkwX5_undo_2 ++ dktX5_undo_3
def dkwX5_undo_1 : List UInt8 := [89, 180, 0, 58, 4, 100, 181, 0, 58, 3, 60, 27, 17, 2, 1, 162, 0, 30, 42, 180, 0, 7, 27, 42]
abbrev dktX5_undo_1 : List UInt8 := dkwX5_undo_1 ++ dktX5_undo_2
def dkwX5_undo_0 : List UInt8 := [42, 42, 180, 0, 58, 158, 0, 7, 4, 167, 0, 4, 3, 4, 4, 182, 0, 183, 154, 0, 5, 3, 172, 42]
abbrev dktX5_undo_0 : List UInt8 := dkwX5_undo_0 ++ dktX5_undo_1
theorem dksX5_undo_0 : cX5_undo.data.toList.drop 0 = dktX5_undo_0 := by decide +kernel
theorem dksX5_undo_1 : cX5_undo.data.toList.drop 24 = dktX5_undo_1 := dk_seg dksX5_undo_0 24 rfl rfl
theorem dksX5_undo_2 : cX5_undo.data.toList.drop 48 = dktX5_undo_2 := dk_seg dksX5_undo_1 24 rfl rfl
theorem dksX5_undo_3 : cX5_undo.data.toList.drop 70 = dktX5_undo_3 := dk_seg dksX5_undo_2 22 rfl rfl
theorem dX5_undo_0 : decode cX5_undo 0 = .ok (.aload_n 0, 1) := dk_42 (dk_at dksX5_undo_0 0 rfl rfl)
theorem dX5_undo_1 : decode cX5_undo 1 = .ok (.aload_n 0, 1) := dk_42 (dk_at dksX5_undo_0 1 rfl rfl)
theorem dX5_undo_2 : decode cX5_undo 2 = .ok (.getfield 58, 3) := dk_180 0 58 (dk_at dksX5_undo_0 2 rfl rfl)
theorem dX5_undo_5 : decode cX5_undo 5 = .ok (.ifCond .le 7, 3) := dk_158 0 7 (dk_at dksX5_undo_0 5 rfl rfl)
theorem dX5_undo_8 : decode cX5_undo 8 = .ok (.iconst 1, 1) := dk_4 (dk_at dksX5_undo_0 8 rfl rfl)
theorem dX5_undo_9 : decode cX5_undo 9 = .ok (.goto 4, 3) := dk_167 0 4 (dk_at dksX5_undo_0 9 rfl rfl)
theorem dX5_undo_12 : decode cX5_undo 12 = .ok (.iconst 0, 1) := dk_3 (dk_at dksX5_undo_0 12 rfl rfl)
theorem dX5_undo_13 : decode cX5_undo 13 = .ok (.iconst 1, 1) := dk_4 (dk_at dksX5_undo_0 13 rfl rfl)
theorem dX5_undo_14 : decode cX5_undo 14 = .ok (.iconst 1, 1) := dk_4 (dk_at dksX5_undo_0 14 rfl rfl)
theorem dX5_undo_15 : decode cX5_undo 15 = .ok (.invokevirtual 183, 3) := dk_182 0 183 (dk_at dksX5_undo_0 15 rfl rfl)
theorem dX5_undo_18 : decode cX5_undo 18 = .ok (.ifCond .ne 5, 3) := dk_154 0 5 (dk_at dksX5_undo_0 18 rfl rfl)
theorem dX5_undo_21 : decode cX5_undo 21 = .ok (.iconst 0, 1) := dk_3 (dk_at dksX5_undo_0 21 rfl rfl)
theorem dX5_undo_22 : decode cX5_undo 22 = .ok (.ireturn, 1) := dk_172 (dk_at dksX5_undo_0 22 rfl rfl)
theorem dX5_undo_23 : decode cX5_undo 23 = .ok (.aload_n 0, 1) := dk_42 (dk_at dksX5_undo_0 23 rfl rfl)
theorem dX5_undo_24 : decode cX5_undo 24 = .ok (.dup, 1) := dk_89 (dk_at dksX5_undo_1 0 rfl rfl)
theorem dX5_undo_25 : decode cX5_undo 25 = .ok (.getfield 58, 3) := dk_180 0 58 (dk_at dksX5_undo_1 1 rfl rfl)
theorem dX5_undo_28 : decode cX5_undo 28 = .ok (.iconst 1, 1) := dk_4 (dk_at dksX5_undo_1 4 rfl rfl)
theorem dX5_undo_29 : decode cX5_undo 29 = .ok (.isub, 1) := dk_100 (dk_at dksX5_undo_1 5 rfl rfl)
theorem dX5_undo_30 : decode cX5_undo 30 = .ok (.putfield 58, 3) := dk_181 0 58 (dk_at dksX5_undo_1 6 rfl rfl)
theorem dX5_undo_33 : decode cX5_undo 33 = .ok (.iconst 0, 1) := dk_3 (dk_at dksX5_undo_1 9 rfl rfl)
theorem dX5_undo_34 : decode cX5_undo 34 = .ok (.istore_n 1, 1) := dk_60 (dk_at dksX5_undo_1 10 rfl rfl)
theorem dX5_undo_35 : decode cX5_undo 35 = .ok (.iload_n 1, 1) := dk_27 (dk_at dksX5_undo_1 11 rfl rfl)
theorem dX5_undo_36 : decode cX5_undo 36 = .ok (.sipush 513, 3) := dk_17 2 1 (dk_at dksX5_undo_1 12 rfl rfl)
theorem dX5_undo_39 : decode cX5_undo 39 = .ok (.if_icmp .ge 30, 3) := dk_162 0 30 (dk_at dksX5_undo_1 15 rfl rfl)
theorem dX5_undo_42 : decode cX5_undo 42 = .ok (.aload_n 0, 1) := dk_42 (dk_at dksX5_undo_1 18 rfl rfl)
theorem dX5_undo_43 : decode cX5_undo 43 = .ok (.getfield 7, 3) := dk_180 0 7 (dk_at dksX5_undo_1 19 rfl rfl)
theorem dX5_undo_46 : decode cX5_undo 46 = .ok (.iload_n 1, 1) := dk_27 (dk_at dksX5_undo_1 22 rfl rfl)
theorem dX5_undo_47 : decode cX5_undo 47 = .ok (.aload_n 0, 1) := dk_42 (dk_at dksX5_undo_1 23 rfl rfl)
theorem dX5_undo_48 : decode cX5_undo 48 = .ok (.getfield 13, 3) := dk_180 0 13 (dk_at dksX5_undo_2 0 rfl rfl)
theorem dX5_undo_51 : decode cX5_undo 51 = .ok (.sipush 513, 3) := dk_17 2 1 (dk_at dksX5_undo_2 3 rfl rfl)
theorem dX5_undo_54 : decode cX5_undo 54 = .ok (.aload_n 0, 1) := dk_42 (dk_at dksX5_undo_2 6 rfl rfl)
theorem dX5_undo_55 : decode cX5_undo 55 = .ok (.getfield 58, 3) := dk_180 0 58 (dk_at dksX5_undo_2 7 rfl rfl)
theorem dX5_undo_58 : decode cX5_undo 58 = .ok (.imul, 1) := dk_104 (dk_at dksX5_undo_2 10 rfl rfl)
theorem dX5_undo_59 : decode cX5_undo 59 = .ok (.iload_n 1, 1) := dk_27 (dk_at dksX5_undo_2 11 rfl rfl)
theorem dX5_undo_60 : decode cX5_undo 60 = .ok (.iadd, 1) := dk_96 (dk_at dksX5_undo_2 12 rfl rfl)
theorem dX5_undo_61 : decode cX5_undo 61 = .ok (.laload, 1) := dk_47 (dk_at dksX5_undo_2 13 rfl rfl)
theorem dX5_undo_62 : decode cX5_undo 62 = .ok (.lastore, 1) := dk_80 (dk_at dksX5_undo_2 14 rfl rfl)
theorem dX5_undo_63 : decode cX5_undo 63 = .ok (.iinc 1 1, 3) := dk_132 1 1 (dk_at dksX5_undo_2 15 rfl rfl)
theorem dX5_undo_66 : decode cX5_undo 66 = .ok (.goto (-31), 3) := dk_167 255 225 (dk_at dksX5_undo_2 18 rfl rfl)
theorem dX5_undo_69 : decode cX5_undo 69 = .ok (.aload_n 0, 1) := dk_42 (dk_at dksX5_undo_2 21 rfl rfl)
theorem dX5_undo_70 : decode cX5_undo 70 = .ok (.getfield 58, 3) := dk_180 0 58 (dk_at dksX5_undo_3 0 rfl rfl)
theorem dX5_undo_73 : decode cX5_undo 73 = .ok (.ireturn, 1) := dk_172 (dk_at dksX5_undo_3 3 rfl rfl)
abbrev cX5_digest : ByteArray := prog_13_method_92_code
def yX5_digest : MethodName := ⟨RX5, "digest", "()J"⟩
def dkwX5_digest_9 : List UInt8 := [167, 255, 236, 31, 42, 180, 0, 58, 133, 184, 1, 81, 173]
abbrev dktX5_digest_9 : List UInt8 := dkwX5_digest_9 ++ []
def dkwX5_digest_8 : List UInt8 := [54, 4, 21, 4, 7, 162, 0, 20, 31, 42, 21, 4, 182, 0, 251, 184, 1, 81, 64, 132, 4, 1]
abbrev dktX5_digest_8 : List UInt8 := dkwX5_digest_8 ++ dktX5_digest_9
def dkwX5_digest_7 : List UInt8 := [133, 184, 1, 81, 42, 21, 4, 4, 182, 1, 13, 133, 184, 1, 81, 64, 132, 4, 1, 167, 255, 172, 3]
abbrev dktX5_digest_7 : List UInt8 := dkwX5_digest_7 ++ dktX5_digest_8
def dkwX5_digest_6 : List UInt8 := [17, 0, 152, 42, 180, 0, 29, 21, 4, 46, 96, 47, 184, 1, 81, 64, 31, 42, 21, 4, 3, 182, 1, 13]
abbrev dktX5_digest_6 : List UInt8 := dkwX5_digest_6 ++ dktX5_digest_7
def dkwX5_digest_5 : List UInt8 := [42, 21, 4, 21, 5, 182, 1, 6, 133, 184, 1, 81, 64, 132, 5, 1, 167, 255, 232, 31, 42, 180, 0, 7]
abbrev dktX5_digest_5 : List UInt8 := dkwX5_digest_5 ++ dktX5_digest_6
def dkwX5_digest_4 : List UInt8 := [180, 0, 149, 62, 3, 54, 4, 21, 4, 29, 162, 0, 84, 3, 54, 5, 21, 5, 16, 10, 162, 0, 23, 31]
abbrev dktX5_digest_4 : List UInt8 := dkwX5_digest_4 ++ dktX5_digest_5
def dkwX5_digest_3 : List UInt8 := [133, 184, 1, 81, 64, 132, 4, 1, 167, 255, 233, 132, 3, 1, 167, 255, 216, 42, 182, 0, 152, 42]
abbrev dktX5_digest_3 : List UInt8 := dkwX5_digest_3 ++ dktX5_digest_4
def dkwX5_digest_2 : List UInt8 := [182, 0, 61, 162, 0, 38, 3, 54, 4, 21, 4, 16, 6, 162, 0, 22, 31, 42, 29, 21, 4, 182, 0, 216]
abbrev dktX5_digest_2 : List UInt8 := dkwX5_digest_2 ++ dktX5_digest_3
def dkwX5_digest_1 : List UInt8 := [162, 0, 20, 31, 42, 29, 182, 0, 225, 133, 184, 1, 81, 64, 132, 3, 1, 167, 255, 236, 3, 62, 29, 42]
abbrev dktX5_digest_1 : List UInt8 := dkwX5_digest_1 ++ dktX5_digest_2
def dkwX5_digest_0 : List UInt8 := [42, 3, 181, 0, 54, 20, 1, 79, 42, 180, 1, 32, 133, 184, 1, 81, 64, 3, 62, 29, 16, 7]
abbrev dktX5_digest_0 : List UInt8 := dkwX5_digest_0 ++ dktX5_digest_1
theorem dksX5_digest_0 : cX5_digest.data.toList.drop 0 = dktX5_digest_0 := by decide +kernel
theorem dksX5_digest_1 : cX5_digest.data.toList.drop 22 = dktX5_digest_1 := dk_seg dksX5_digest_0 22 rfl rfl
theorem dksX5_digest_2 : cX5_digest.data.toList.drop 46 = dktX5_digest_2 := dk_seg dksX5_digest_1 24 rfl rfl
theorem dksX5_digest_3 : cX5_digest.data.toList.drop 70 = dktX5_digest_3 := dk_seg dksX5_digest_2 24 rfl rfl
theorem dksX5_digest_4 : cX5_digest.data.toList.drop 92 = dktX5_digest_4 := dk_seg dksX5_digest_3 22 rfl rfl
theorem dksX5_digest_5 : cX5_digest.data.toList.drop 116 = dktX5_digest_5 := dk_seg dksX5_digest_4 24 rfl rfl
theorem dksX5_digest_6 : cX5_digest.data.toList.drop 140 = dktX5_digest_6 := dk_seg dksX5_digest_5 24 rfl rfl
theorem dksX5_digest_7 : cX5_digest.data.toList.drop 164 = dktX5_digest_7 := dk_seg dksX5_digest_6 24 rfl rfl
theorem dksX5_digest_8 : cX5_digest.data.toList.drop 187 = dktX5_digest_8 := dk_seg dksX5_digest_7 23 rfl rfl
theorem dksX5_digest_9 : cX5_digest.data.toList.drop 209 = dktX5_digest_9 := dk_seg dksX5_digest_8 22 rfl rfl
theorem dX5_digest_0 : decode cX5_digest 0 = .ok (.aload_n 0, 1) := dk_42 (dk_at dksX5_digest_0 0 rfl rfl)
theorem dX5_digest_1 : decode cX5_digest 1 = .ok (.iconst 0, 1) := dk_3 (dk_at dksX5_digest_0 1 rfl rfl)
theorem dX5_digest_2 : decode cX5_digest 2 = .ok (.putfield 54, 3) := dk_181 0 54 (dk_at dksX5_digest_0 2 rfl rfl)
theorem dX5_digest_5 : decode cX5_digest 5 = .ok (.ldc2_w 335, 3) := dk_20 1 79 (dk_at dksX5_digest_0 5 rfl rfl)
theorem dX5_digest_8 : decode cX5_digest 8 = .ok (.aload_n 0, 1) := dk_42 (dk_at dksX5_digest_0 8 rfl rfl)
theorem dX5_digest_9 : decode cX5_digest 9 = .ok (.getfield 288, 3) := dk_180 1 32 (dk_at dksX5_digest_0 9 rfl rfl)
theorem dX5_digest_12 : decode cX5_digest 12 = .ok (.i2l, 1) := dk_133 (dk_at dksX5_digest_0 12 rfl rfl)
theorem dX5_digest_13 : decode cX5_digest 13 = .ok (.invokestatic 337, 3) := dk_184 1 81 (dk_at dksX5_digest_0 13 rfl rfl)
theorem dX5_digest_16 : decode cX5_digest 16 = .ok (.lstore_n 1, 1) := dk_64 (dk_at dksX5_digest_0 16 rfl rfl)
theorem dX5_digest_17 : decode cX5_digest 17 = .ok (.iconst 0, 1) := dk_3 (dk_at dksX5_digest_0 17 rfl rfl)
theorem dX5_digest_18 : decode cX5_digest 18 = .ok (.istore_n 3, 1) := dk_62 (dk_at dksX5_digest_0 18 rfl rfl)
theorem dX5_digest_19 : decode cX5_digest 19 = .ok (.iload_n 3, 1) := dk_29 (dk_at dksX5_digest_0 19 rfl rfl)
theorem dX5_digest_20 : decode cX5_digest 20 = .ok (.bipush 7, 2) := dk_16 7 (dk_at dksX5_digest_0 20 rfl rfl)
theorem dX5_digest_22 : decode cX5_digest 22 = .ok (.if_icmp .ge 20, 3) := dk_162 0 20 (dk_at dksX5_digest_1 0 rfl rfl)
theorem dX5_digest_25 : decode cX5_digest 25 = .ok (.lload_n 1, 1) := dk_31 (dk_at dksX5_digest_1 3 rfl rfl)
theorem dX5_digest_26 : decode cX5_digest 26 = .ok (.aload_n 0, 1) := dk_42 (dk_at dksX5_digest_1 4 rfl rfl)
theorem dX5_digest_27 : decode cX5_digest 27 = .ok (.iload_n 3, 1) := dk_29 (dk_at dksX5_digest_1 5 rfl rfl)
theorem dX5_digest_28 : decode cX5_digest 28 = .ok (.invokevirtual 225, 3) := dk_182 0 225 (dk_at dksX5_digest_1 6 rfl rfl)
theorem dX5_digest_31 : decode cX5_digest 31 = .ok (.i2l, 1) := dk_133 (dk_at dksX5_digest_1 9 rfl rfl)
theorem dX5_digest_32 : decode cX5_digest 32 = .ok (.invokestatic 337, 3) := dk_184 1 81 (dk_at dksX5_digest_1 10 rfl rfl)
theorem dX5_digest_35 : decode cX5_digest 35 = .ok (.lstore_n 1, 1) := dk_64 (dk_at dksX5_digest_1 13 rfl rfl)
theorem dX5_digest_36 : decode cX5_digest 36 = .ok (.iinc 3 1, 3) := dk_132 3 1 (dk_at dksX5_digest_1 14 rfl rfl)
theorem dX5_digest_39 : decode cX5_digest 39 = .ok (.goto (-20), 3) := dk_167 255 236 (dk_at dksX5_digest_1 17 rfl rfl)
theorem dX5_digest_42 : decode cX5_digest 42 = .ok (.iconst 0, 1) := dk_3 (dk_at dksX5_digest_1 20 rfl rfl)
theorem dX5_digest_43 : decode cX5_digest 43 = .ok (.istore_n 3, 1) := dk_62 (dk_at dksX5_digest_1 21 rfl rfl)
theorem dX5_digest_44 : decode cX5_digest 44 = .ok (.iload_n 3, 1) := dk_29 (dk_at dksX5_digest_1 22 rfl rfl)
theorem dX5_digest_45 : decode cX5_digest 45 = .ok (.aload_n 0, 1) := dk_42 (dk_at dksX5_digest_1 23 rfl rfl)
theorem dX5_digest_46 : decode cX5_digest 46 = .ok (.invokevirtual 61, 3) := dk_182 0 61 (dk_at dksX5_digest_2 0 rfl rfl)
theorem dX5_digest_49 : decode cX5_digest 49 = .ok (.if_icmp .ge 38, 3) := dk_162 0 38 (dk_at dksX5_digest_2 3 rfl rfl)
theorem dX5_digest_52 : decode cX5_digest 52 = .ok (.iconst 0, 1) := dk_3 (dk_at dksX5_digest_2 6 rfl rfl)
theorem dX5_digest_53 : decode cX5_digest 53 = .ok (.istore 4, 2) := dk_54 4 (dk_at dksX5_digest_2 7 rfl rfl)
theorem dX5_digest_55 : decode cX5_digest 55 = .ok (.iload 4, 2) := dk_21 4 (dk_at dksX5_digest_2 9 rfl rfl)
theorem dX5_digest_57 : decode cX5_digest 57 = .ok (.bipush 6, 2) := dk_16 6 (dk_at dksX5_digest_2 11 rfl rfl)
theorem dX5_digest_59 : decode cX5_digest 59 = .ok (.if_icmp .ge 22, 3) := dk_162 0 22 (dk_at dksX5_digest_2 13 rfl rfl)
theorem dX5_digest_62 : decode cX5_digest 62 = .ok (.lload_n 1, 1) := dk_31 (dk_at dksX5_digest_2 16 rfl rfl)
theorem dX5_digest_63 : decode cX5_digest 63 = .ok (.aload_n 0, 1) := dk_42 (dk_at dksX5_digest_2 17 rfl rfl)
theorem dX5_digest_64 : decode cX5_digest 64 = .ok (.iload_n 3, 1) := dk_29 (dk_at dksX5_digest_2 18 rfl rfl)
theorem dX5_digest_65 : decode cX5_digest 65 = .ok (.iload 4, 2) := dk_21 4 (dk_at dksX5_digest_2 19 rfl rfl)
theorem dX5_digest_67 : decode cX5_digest 67 = .ok (.invokevirtual 216, 3) := dk_182 0 216 (dk_at dksX5_digest_2 21 rfl rfl)
theorem dX5_digest_70 : decode cX5_digest 70 = .ok (.i2l, 1) := dk_133 (dk_at dksX5_digest_3 0 rfl rfl)
theorem dX5_digest_71 : decode cX5_digest 71 = .ok (.invokestatic 337, 3) := dk_184 1 81 (dk_at dksX5_digest_3 1 rfl rfl)
theorem dX5_digest_74 : decode cX5_digest 74 = .ok (.lstore_n 1, 1) := dk_64 (dk_at dksX5_digest_3 4 rfl rfl)
theorem dX5_digest_75 : decode cX5_digest 75 = .ok (.iinc 4 1, 3) := dk_132 4 1 (dk_at dksX5_digest_3 5 rfl rfl)
theorem dX5_digest_78 : decode cX5_digest 78 = .ok (.goto (-23), 3) := dk_167 255 233 (dk_at dksX5_digest_3 8 rfl rfl)
theorem dX5_digest_81 : decode cX5_digest 81 = .ok (.iinc 3 1, 3) := dk_132 3 1 (dk_at dksX5_digest_3 11 rfl rfl)
theorem dX5_digest_84 : decode cX5_digest 84 = .ok (.goto (-40), 3) := dk_167 255 216 (dk_at dksX5_digest_3 14 rfl rfl)
theorem dX5_digest_87 : decode cX5_digest 87 = .ok (.aload_n 0, 1) := dk_42 (dk_at dksX5_digest_3 17 rfl rfl)
theorem dX5_digest_88 : decode cX5_digest 88 = .ok (.invokevirtual 152, 3) := dk_182 0 152 (dk_at dksX5_digest_3 18 rfl rfl)
theorem dX5_digest_91 : decode cX5_digest 91 = .ok (.aload_n 0, 1) := dk_42 (dk_at dksX5_digest_3 21 rfl rfl)
theorem dX5_digest_92 : decode cX5_digest 92 = .ok (.getfield 149, 3) := dk_180 0 149 (dk_at dksX5_digest_4 0 rfl rfl)
theorem dX5_digest_95 : decode cX5_digest 95 = .ok (.istore_n 3, 1) := dk_62 (dk_at dksX5_digest_4 3 rfl rfl)
theorem dX5_digest_96 : decode cX5_digest 96 = .ok (.iconst 0, 1) := dk_3 (dk_at dksX5_digest_4 4 rfl rfl)
theorem dX5_digest_97 : decode cX5_digest 97 = .ok (.istore 4, 2) := dk_54 4 (dk_at dksX5_digest_4 5 rfl rfl)
theorem dX5_digest_99 : decode cX5_digest 99 = .ok (.iload 4, 2) := dk_21 4 (dk_at dksX5_digest_4 7 rfl rfl)
theorem dX5_digest_101 : decode cX5_digest 101 = .ok (.iload_n 3, 1) := dk_29 (dk_at dksX5_digest_4 9 rfl rfl)
theorem dX5_digest_102 : decode cX5_digest 102 = .ok (.if_icmp .ge 84, 3) := dk_162 0 84 (dk_at dksX5_digest_4 10 rfl rfl)
theorem dX5_digest_105 : decode cX5_digest 105 = .ok (.iconst 0, 1) := dk_3 (dk_at dksX5_digest_4 13 rfl rfl)
theorem dX5_digest_106 : decode cX5_digest 106 = .ok (.istore 5, 2) := dk_54 5 (dk_at dksX5_digest_4 14 rfl rfl)
theorem dX5_digest_108 : decode cX5_digest 108 = .ok (.iload 5, 2) := dk_21 5 (dk_at dksX5_digest_4 16 rfl rfl)
theorem dX5_digest_110 : decode cX5_digest 110 = .ok (.bipush 10, 2) := dk_16 10 (dk_at dksX5_digest_4 18 rfl rfl)
theorem dX5_digest_112 : decode cX5_digest 112 = .ok (.if_icmp .ge 23, 3) := dk_162 0 23 (dk_at dksX5_digest_4 20 rfl rfl)
theorem dX5_digest_115 : decode cX5_digest 115 = .ok (.lload_n 1, 1) := dk_31 (dk_at dksX5_digest_4 23 rfl rfl)
theorem dX5_digest_116 : decode cX5_digest 116 = .ok (.aload_n 0, 1) := dk_42 (dk_at dksX5_digest_5 0 rfl rfl)
theorem dX5_digest_117 : decode cX5_digest 117 = .ok (.iload 4, 2) := dk_21 4 (dk_at dksX5_digest_5 1 rfl rfl)
theorem dX5_digest_119 : decode cX5_digest 119 = .ok (.iload 5, 2) := dk_21 5 (dk_at dksX5_digest_5 3 rfl rfl)
theorem dX5_digest_121 : decode cX5_digest 121 = .ok (.invokevirtual 262, 3) := dk_182 1 6 (dk_at dksX5_digest_5 5 rfl rfl)
theorem dX5_digest_124 : decode cX5_digest 124 = .ok (.i2l, 1) := dk_133 (dk_at dksX5_digest_5 8 rfl rfl)
theorem dX5_digest_125 : decode cX5_digest 125 = .ok (.invokestatic 337, 3) := dk_184 1 81 (dk_at dksX5_digest_5 9 rfl rfl)
theorem dX5_digest_128 : decode cX5_digest 128 = .ok (.lstore_n 1, 1) := dk_64 (dk_at dksX5_digest_5 12 rfl rfl)
theorem dX5_digest_129 : decode cX5_digest 129 = .ok (.iinc 5 1, 3) := dk_132 5 1 (dk_at dksX5_digest_5 13 rfl rfl)
theorem dX5_digest_132 : decode cX5_digest 132 = .ok (.goto (-24), 3) := dk_167 255 232 (dk_at dksX5_digest_5 16 rfl rfl)
theorem dX5_digest_135 : decode cX5_digest 135 = .ok (.lload_n 1, 1) := dk_31 (dk_at dksX5_digest_5 19 rfl rfl)
theorem dX5_digest_136 : decode cX5_digest 136 = .ok (.aload_n 0, 1) := dk_42 (dk_at dksX5_digest_5 20 rfl rfl)
theorem dX5_digest_137 : decode cX5_digest 137 = .ok (.getfield 7, 3) := dk_180 0 7 (dk_at dksX5_digest_5 21 rfl rfl)
theorem dX5_digest_140 : decode cX5_digest 140 = .ok (.sipush 152, 3) := dk_17 0 152 (dk_at dksX5_digest_6 0 rfl rfl)
theorem dX5_digest_143 : decode cX5_digest 143 = .ok (.aload_n 0, 1) := dk_42 (dk_at dksX5_digest_6 3 rfl rfl)
theorem dX5_digest_144 : decode cX5_digest 144 = .ok (.getfield 29, 3) := dk_180 0 29 (dk_at dksX5_digest_6 4 rfl rfl)
theorem dX5_digest_147 : decode cX5_digest 147 = .ok (.iload 4, 2) := dk_21 4 (dk_at dksX5_digest_6 7 rfl rfl)
theorem dX5_digest_149 : decode cX5_digest 149 = .ok (.iaload, 1) := dk_46 (dk_at dksX5_digest_6 9 rfl rfl)
theorem dX5_digest_150 : decode cX5_digest 150 = .ok (.iadd, 1) := dk_96 (dk_at dksX5_digest_6 10 rfl rfl)
theorem dX5_digest_151 : decode cX5_digest 151 = .ok (.laload, 1) := dk_47 (dk_at dksX5_digest_6 11 rfl rfl)
theorem dX5_digest_152 : decode cX5_digest 152 = .ok (.invokestatic 337, 3) := dk_184 1 81 (dk_at dksX5_digest_6 12 rfl rfl)
theorem dX5_digest_155 : decode cX5_digest 155 = .ok (.lstore_n 1, 1) := dk_64 (dk_at dksX5_digest_6 15 rfl rfl)
theorem dX5_digest_156 : decode cX5_digest 156 = .ok (.lload_n 1, 1) := dk_31 (dk_at dksX5_digest_6 16 rfl rfl)
theorem dX5_digest_157 : decode cX5_digest 157 = .ok (.aload_n 0, 1) := dk_42 (dk_at dksX5_digest_6 17 rfl rfl)
theorem dX5_digest_158 : decode cX5_digest 158 = .ok (.iload 4, 2) := dk_21 4 (dk_at dksX5_digest_6 18 rfl rfl)
theorem dX5_digest_160 : decode cX5_digest 160 = .ok (.iconst 0, 1) := dk_3 (dk_at dksX5_digest_6 20 rfl rfl)
theorem dX5_digest_161 : decode cX5_digest 161 = .ok (.invokevirtual 269, 3) := dk_182 1 13 (dk_at dksX5_digest_6 21 rfl rfl)
theorem dX5_digest_164 : decode cX5_digest 164 = .ok (.i2l, 1) := dk_133 (dk_at dksX5_digest_7 0 rfl rfl)
theorem dX5_digest_165 : decode cX5_digest 165 = .ok (.invokestatic 337, 3) := dk_184 1 81 (dk_at dksX5_digest_7 1 rfl rfl)
theorem dX5_digest_168 : decode cX5_digest 168 = .ok (.aload_n 0, 1) := dk_42 (dk_at dksX5_digest_7 4 rfl rfl)
theorem dX5_digest_169 : decode cX5_digest 169 = .ok (.iload 4, 2) := dk_21 4 (dk_at dksX5_digest_7 5 rfl rfl)
theorem dX5_digest_171 : decode cX5_digest 171 = .ok (.iconst 1, 1) := dk_4 (dk_at dksX5_digest_7 7 rfl rfl)
theorem dX5_digest_172 : decode cX5_digest 172 = .ok (.invokevirtual 269, 3) := dk_182 1 13 (dk_at dksX5_digest_7 8 rfl rfl)
theorem dX5_digest_175 : decode cX5_digest 175 = .ok (.i2l, 1) := dk_133 (dk_at dksX5_digest_7 11 rfl rfl)
theorem dX5_digest_176 : decode cX5_digest 176 = .ok (.invokestatic 337, 3) := dk_184 1 81 (dk_at dksX5_digest_7 12 rfl rfl)
theorem dX5_digest_179 : decode cX5_digest 179 = .ok (.lstore_n 1, 1) := dk_64 (dk_at dksX5_digest_7 15 rfl rfl)
theorem dX5_digest_180 : decode cX5_digest 180 = .ok (.iinc 4 1, 3) := dk_132 4 1 (dk_at dksX5_digest_7 16 rfl rfl)
theorem dX5_digest_183 : decode cX5_digest 183 = .ok (.goto (-84), 3) := dk_167 255 172 (dk_at dksX5_digest_7 19 rfl rfl)
theorem dX5_digest_186 : decode cX5_digest 186 = .ok (.iconst 0, 1) := dk_3 (dk_at dksX5_digest_7 22 rfl rfl)
theorem dX5_digest_187 : decode cX5_digest 187 = .ok (.istore 4, 2) := dk_54 4 (dk_at dksX5_digest_8 0 rfl rfl)
theorem dX5_digest_189 : decode cX5_digest 189 = .ok (.iload 4, 2) := dk_21 4 (dk_at dksX5_digest_8 2 rfl rfl)
theorem dX5_digest_191 : decode cX5_digest 191 = .ok (.iconst 4, 1) := dk_7 (dk_at dksX5_digest_8 4 rfl rfl)
theorem dX5_digest_192 : decode cX5_digest 192 = .ok (.if_icmp .ge 20, 3) := dk_162 0 20 (dk_at dksX5_digest_8 5 rfl rfl)
theorem dX5_digest_195 : decode cX5_digest 195 = .ok (.lload_n 1, 1) := dk_31 (dk_at dksX5_digest_8 8 rfl rfl)
theorem dX5_digest_196 : decode cX5_digest 196 = .ok (.aload_n 0, 1) := dk_42 (dk_at dksX5_digest_8 9 rfl rfl)
theorem dX5_digest_197 : decode cX5_digest 197 = .ok (.iload 4, 2) := dk_21 4 (dk_at dksX5_digest_8 10 rfl rfl)
theorem dX5_digest_199 : decode cX5_digest 199 = .ok (.invokevirtual 251, 3) := dk_182 0 251 (dk_at dksX5_digest_8 12 rfl rfl)
theorem dX5_digest_202 : decode cX5_digest 202 = .ok (.invokestatic 337, 3) := dk_184 1 81 (dk_at dksX5_digest_8 15 rfl rfl)
theorem dX5_digest_205 : decode cX5_digest 205 = .ok (.lstore_n 1, 1) := dk_64 (dk_at dksX5_digest_8 18 rfl rfl)
theorem dX5_digest_206 : decode cX5_digest 206 = .ok (.iinc 4 1, 3) := dk_132 4 1 (dk_at dksX5_digest_8 19 rfl rfl)
theorem dX5_digest_209 : decode cX5_digest 209 = .ok (.goto (-20), 3) := dk_167 255 236 (dk_at dksX5_digest_9 0 rfl rfl)
theorem dX5_digest_212 : decode cX5_digest 212 = .ok (.lload_n 1, 1) := dk_31 (dk_at dksX5_digest_9 3 rfl rfl)
theorem dX5_digest_213 : decode cX5_digest 213 = .ok (.aload_n 0, 1) := dk_42 (dk_at dksX5_digest_9 4 rfl rfl)
theorem dX5_digest_214 : decode cX5_digest 214 = .ok (.getfield 58, 3) := dk_180 0 58 (dk_at dksX5_digest_9 5 rfl rfl)
theorem dX5_digest_217 : decode cX5_digest 217 = .ok (.i2l, 1) := dk_133 (dk_at dksX5_digest_9 8 rfl rfl)
theorem dX5_digest_218 : decode cX5_digest 218 = .ok (.invokestatic 337, 3) := dk_184 1 81 (dk_at dksX5_digest_9 9 rfl rfl)
theorem dX5_digest_221 : decode cX5_digest 221 = .ok (.lreturn, 1) := dk_173 (dk_at dksX5_digest_9 12 rfl rfl)
abbrev cX5_sums : ByteArray := prog_13_method_91_code
def yX5_sums : MethodName := ⟨RX5, "sums", "(JJ)J"⟩
def dkwX5_sums_0 : List UInt8 := [20, 1, 77, 30, 105, 32, 97, 173]
abbrev dktX5_sums_0 : List UInt8 := dkwX5_sums_0 ++ []
theorem dksX5_sums_0 : cX5_sums.data.toList.drop 0 = dktX5_sums_0 := by decide +kernel
theorem dX5_sums_0 : decode cX5_sums 0 = .ok (.ldc2_w 333, 3) := dk_20 1 77 (dk_at dksX5_sums_0 0 rfl rfl)
theorem dX5_sums_3 : decode cX5_sums 3 = .ok (.lload_n 0, 1) := dk_30 (dk_at dksX5_sums_0 3 rfl rfl)
theorem dX5_sums_4 : decode cX5_sums 4 = .ok (.lmul, 1) := dk_105 (dk_at dksX5_sums_0 4 rfl rfl)
theorem dX5_sums_5 : decode cX5_sums 5 = .ok (.lload_n 2, 1) := dk_32 (dk_at dksX5_sums_0 5 rfl rfl)
theorem dX5_sums_6 : decode cX5_sums 6 = .ok (.ladd, 1) := dk_97 (dk_at dksX5_sums_0 6 rfl rfl)
theorem dX5_sums_7 : decode cX5_sums 7 = .ok (.lreturn, 1) := dk_173 (dk_at dksX5_sums_0 7 rfl rfl)
theorem q132 : (Jvm.Cond.initialized "LakeLevelsModel") ∈ lw_all := lw_g (lw_at lw_m1 31 rfl) rfl
theorem q451 : (Jvm.Cond.selects "LakeLevelsModel" ({ cls := "java/lang/Object", name := "getClass", desc := "()Ljava/lang/Class;" } : Jvm.MethodName) ({ cls := "java/lang/Object", name := "getClass", desc := "()Ljava/lang/Class;" } : Jvm.MethodName)) ∈ lw_all := lw_g (lw_at lw_m2 110 rfl) rfl
theorem q1541 : (Jvm.Cond.selects "LakeLevelsModel" ({ cls := "java/lang/Object", name := "equals", desc := "(Ljava/lang/Object;)Z" } : Jvm.MethodName) ({ cls := "java/lang/Object", name := "equals", desc := "(Ljava/lang/Object;)Z" } : Jvm.MethodName)) ∈ lw_all := lw_g (lw_at lw_m7 0 rfl) rfl
theorem q2046 : (Jvm.Cond.instantiable "LakeLevelsModel" (25 : Nat)) ∈ lw_all := lw_g (lw_at lw_m9 25 rfl) rfl
theorem q2048 : (Jvm.Cond.instanceMethod ({ cls := "LakeLevelsModel", name := "<init>", desc := "()V" } : Jvm.MethodName)) ∈ lw_all := lw_g (lw_at lw_m9 27 rfl) rfl
theorem q2049 : (Jvm.Cond.code ({ cls := "LakeLevelsModel", name := "<init>", desc := "()V" } : Jvm.MethodName) prog_13_method_1_code (1 : Nat) (Option.none : Option Jvm.ClassFile.FieldType)) ∈ lw_all := lw_g (lw_at lw_m9 28 rfl) rfl
theorem q2050 : (Jvm.Cond.methodLink "LakeLevelsModel" (1 : Nat) ({ cls := "java/lang/Object", name := "<init>", desc := "()V" } : Jvm.MethodName)) ∈ lw_all := lw_g (lw_at lw_m9 29 rfl) rfl
theorem q2051 : (Jvm.Cond.methodLink "LakeLevelsModel" (50 : Nat) ({ cls := "LakeLevelsModel", name := "begins", desc := "(II)V" } : Jvm.MethodName)) ∈ lw_all := lw_g (lw_at lw_m9 30 rfl) rfl
theorem q2052 : (Jvm.Cond.privateMethod ({ cls := "LakeLevelsModel", name := "begins", desc := "(II)V" } : Jvm.MethodName)) ∈ lw_tbl := lw_at lw_m9 31 rfl
theorem q2053 : (Jvm.Cond.instanceMethod ({ cls := "LakeLevelsModel", name := "begins", desc := "(II)V" } : Jvm.MethodName)) ∈ lw_all := lw_g (lw_at lw_m9 32 rfl) rfl
theorem q2054 : (Jvm.Cond.code ({ cls := "LakeLevelsModel", name := "begins", desc := "(II)V" } : Jvm.MethodName) prog_13_method_45_code (4 : Nat) (Option.none : Option Jvm.ClassFile.FieldType)) ∈ lw_all := lw_g (lw_at lw_m9 33 rfl) rfl
theorem q2055 : (Jvm.Cond.constantLong "LakeLevelsModel" (109 : Nat) (-1 : Int64)) ∈ lw_all := lw_g (lw_at lw_m9 34 rfl) rfl
theorem q2056 : (Jvm.Cond.methodLink "LakeLevelsModel" (174 : Nat) ({ cls := "LakeLevelsModel", name := "finds", desc := "()V" } : Jvm.MethodName)) ∈ lw_all := lw_g (lw_at lw_m9 35 rfl) rfl
theorem q2057 : (Jvm.Cond.privateMethod ({ cls := "LakeLevelsModel", name := "finds", desc := "()V" } : Jvm.MethodName)) ∈ lw_tbl := lw_at lw_m9 36 rfl
theorem q2058 : (Jvm.Cond.instanceMethod ({ cls := "LakeLevelsModel", name := "finds", desc := "()V" } : Jvm.MethodName)) ∈ lw_all := lw_g (lw_at lw_m9 37 rfl) rfl
theorem q2059 : (Jvm.Cond.code ({ cls := "LakeLevelsModel", name := "finds", desc := "()V" } : Jvm.MethodName) prog_13_method_22_code (5 : Nat) (Option.none : Option Jvm.ClassFile.FieldType)) ∈ lw_all := lw_g (lw_at lw_m9 38 rfl) rfl
theorem q2060 : (Jvm.Cond.methodLink "LakeLevelsModel" (61 : Nat) ({ cls := "LakeLevelsModel", name := "many", desc := "()I" } : Jvm.MethodName)) ∈ lw_all := lw_g (lw_at lw_m9 39 rfl) rfl
theorem q2061 : (Jvm.Cond.privateMethod ({ cls := "LakeLevelsModel", name := "many", desc := "()I" } : Jvm.MethodName)) ∈ lw_tbl := lw_at lw_m9 40 rfl
theorem q2062 : (Jvm.Cond.instanceMethod ({ cls := "LakeLevelsModel", name := "many", desc := "()I" } : Jvm.MethodName)) ∈ lw_all := lw_g (lw_at lw_m9 41 rfl) rfl
theorem q2063 : (Jvm.Cond.code ({ cls := "LakeLevelsModel", name := "many", desc := "()I" } : Jvm.MethodName) prog_13_method_8_code (1 : Nat) (Option.some Jvm.ClassFile.FieldType.int)) ∈ lw_all := lw_g (lw_at lw_m9 42 rfl) rfl
theorem q2064 : (Jvm.Cond.methodLink "LakeLevelsModel" (106 : Nat) ({ cls := "LakeLevelsModel", name := "endOf", desc := "(I)J" } : Jvm.MethodName)) ∈ lw_all := lw_g (lw_at lw_m9 43 rfl) rfl
theorem q2065 : (Jvm.Cond.privateMethod ({ cls := "LakeLevelsModel", name := "endOf", desc := "(I)J" } : Jvm.MethodName)) ∈ lw_tbl := lw_at lw_m9 44 rfl
theorem q2066 : (Jvm.Cond.instanceMethod ({ cls := "LakeLevelsModel", name := "endOf", desc := "(I)J" } : Jvm.MethodName)) ∈ lw_all := lw_g (lw_at lw_m9 45 rfl) rfl
theorem q2067 : (Jvm.Cond.code ({ cls := "LakeLevelsModel", name := "endOf", desc := "(I)J" } : Jvm.MethodName) prog_13_method_20_code (5 : Nat) (Option.some Jvm.ClassFile.FieldType.long)) ∈ lw_all := lw_g (lw_at lw_m9 46 rfl) rfl
theorem q2068 : (Jvm.Cond.methodLink "LakeLevelsModel" (98 : Nat) ({ cls := "LakeLevelsModel", name := "plain", desc := "(I)J" } : Jvm.MethodName)) ∈ lw_all := lw_g (lw_at lw_m9 47 rfl) rfl
theorem q2069 : (Jvm.Cond.privateMethod ({ cls := "LakeLevelsModel", name := "plain", desc := "(I)J" } : Jvm.MethodName)) ∈ lw_tbl := lw_at lw_m9 48 rfl
theorem q2070 : (Jvm.Cond.instanceMethod ({ cls := "LakeLevelsModel", name := "plain", desc := "(I)J" } : Jvm.MethodName)) ∈ lw_all := lw_g (lw_at lw_m9 49 rfl) rfl
theorem q2071 : (Jvm.Cond.code ({ cls := "LakeLevelsModel", name := "plain", desc := "(I)J" } : Jvm.MethodName) prog_13_method_18_code (8 : Nat) (Option.some Jvm.ClassFile.FieldType.long)) ∈ lw_all := lw_g (lw_at lw_m9 50 rfl) rfl
theorem q2072 : (Jvm.Cond.methodLink "LakeLevelsModel" (91 : Nat) ({ cls := "LakeLevelsModel", name := "has", desc := "(JI)Z" } : Jvm.MethodName)) ∈ lw_all := lw_g (lw_at lw_m9 51 rfl) rfl
theorem q2073 : (Jvm.Cond.static ({ cls := "LakeLevelsModel", name := "has", desc := "(JI)Z" } : Jvm.MethodName)) ∈ lw_all := lw_g (lw_at lw_m9 52 rfl) rfl
theorem q2074 : (Jvm.Cond.code ({ cls := "LakeLevelsModel", name := "has", desc := "(JI)Z" } : Jvm.MethodName) prog_13_method_17_code (3 : Nat) (Option.some Jvm.ClassFile.FieldType.boolean)) ∈ lw_all := lw_g (lw_at lw_m9 53 rfl) rfl
theorem q2075 : (Jvm.Cond.methodLink "LakeLevelsModel" (69 : Nat) ({ cls := "LakeLevelsModel", name := "neighbor", desc := "(II)I" } : Jvm.MethodName)) ∈ lw_all := lw_g (lw_at lw_m9 54 rfl) rfl
theorem q2076 : (Jvm.Cond.privateMethod ({ cls := "LakeLevelsModel", name := "neighbor", desc := "(II)I" } : Jvm.MethodName)) ∈ lw_tbl := lw_at lw_m9 55 rfl
theorem q2077 : (Jvm.Cond.instanceMethod ({ cls := "LakeLevelsModel", name := "neighbor", desc := "(II)I" } : Jvm.MethodName)) ∈ lw_all := lw_g (lw_at lw_m9 56 rfl) rfl
theorem q2078 : (Jvm.Cond.code ({ cls := "LakeLevelsModel", name := "neighbor", desc := "(II)I" } : Jvm.MethodName) prog_13_method_11_code (4 : Nat) (Option.some Jvm.ClassFile.FieldType.int)) ∈ lw_all := lw_g (lw_at lw_m9 57 rfl) rfl
theorem q2079 : (Jvm.Cond.methodLink "LakeLevelsModel" (87 : Nat) ({ cls := "LakeLevelsModel", name := "height", desc := "(I)I" } : Jvm.MethodName)) ∈ lw_all := lw_g (lw_at lw_m9 58 rfl) rfl
theorem q2080 : (Jvm.Cond.privateMethod ({ cls := "LakeLevelsModel", name := "height", desc := "(I)I" } : Jvm.MethodName)) ∈ lw_tbl := lw_at lw_m9 59 rfl
theorem q2081 : (Jvm.Cond.instanceMethod ({ cls := "LakeLevelsModel", name := "height", desc := "(I)I" } : Jvm.MethodName)) ∈ lw_all := lw_g (lw_at lw_m9 60 rfl) rfl
theorem q2082 : (Jvm.Cond.code ({ cls := "LakeLevelsModel", name := "height", desc := "(I)I" } : Jvm.MethodName) prog_13_method_10_code (2 : Nat) (Option.some Jvm.ClassFile.FieldType.int)) ∈ lw_all := lw_g (lw_at lw_m9 61 rfl) rfl
theorem q2083 : (Jvm.Cond.methodLink "LakeLevelsModel" (95 : Nat) ({ cls := "LakeLevelsModel", name := "runs", desc := "(II)Z" } : Jvm.MethodName)) ∈ lw_all := lw_g (lw_at lw_m9 62 rfl) rfl
theorem q2084 : (Jvm.Cond.privateMethod ({ cls := "LakeLevelsModel", name := "runs", desc := "(II)Z" } : Jvm.MethodName)) ∈ lw_tbl := lw_at lw_m9 63 rfl
theorem q2085 : (Jvm.Cond.instanceMethod ({ cls := "LakeLevelsModel", name := "runs", desc := "(II)Z" } : Jvm.MethodName)) ∈ lw_all := lw_g (lw_at lw_m9 64 rfl) rfl
theorem q2086 : (Jvm.Cond.code ({ cls := "LakeLevelsModel", name := "runs", desc := "(II)Z" } : Jvm.MethodName) prog_13_method_16_code (3 : Nat) (Option.some Jvm.ClassFile.FieldType.boolean)) ∈ lw_all := lw_g (lw_at lw_m9 65 rfl) rfl
theorem q2087 : (Jvm.Cond.methodLink "LakeLevelsModel" (84 : Nat) ({ cls := "LakeLevelsModel", name := "threshold", desc := "(II)I" } : Jvm.MethodName)) ∈ lw_all := lw_g (lw_at lw_m9 66 rfl) rfl
theorem q2088 : (Jvm.Cond.privateMethod ({ cls := "LakeLevelsModel", name := "threshold", desc := "(II)I" } : Jvm.MethodName)) ∈ lw_tbl := lw_at lw_m9 67 rfl
theorem q2089 : (Jvm.Cond.instanceMethod ({ cls := "LakeLevelsModel", name := "threshold", desc := "(II)I" } : Jvm.MethodName)) ∈ lw_all := lw_g (lw_at lw_m9 68 rfl) rfl
theorem q2090 : (Jvm.Cond.code ({ cls := "LakeLevelsModel", name := "threshold", desc := "(II)I" } : Jvm.MethodName) prog_13_method_15_code (7 : Nat) (Option.some Jvm.ClassFile.FieldType.int)) ∈ lw_all := lw_g (lw_at lw_m9 69 rfl) rfl
theorem q2091 : (Jvm.Cond.methodLink "LakeLevelsModel" (81 : Nat) ({ cls := "LakeLevelsModel", name := "gateAt", desc := "(II)I" } : Jvm.MethodName)) ∈ lw_all := lw_g (lw_at lw_m9 70 rfl) rfl
theorem q2092 : (Jvm.Cond.privateMethod ({ cls := "LakeLevelsModel", name := "gateAt", desc := "(II)I" } : Jvm.MethodName)) ∈ lw_tbl := lw_at lw_m9 71 rfl
theorem q2093 : (Jvm.Cond.instanceMethod ({ cls := "LakeLevelsModel", name := "gateAt", desc := "(II)I" } : Jvm.MethodName)) ∈ lw_all := lw_g (lw_at lw_m9 72 rfl) rfl
theorem q2094 : (Jvm.Cond.code ({ cls := "LakeLevelsModel", name := "gateAt", desc := "(II)I" } : Jvm.MethodName) prog_13_method_14_code (5 : Nat) (Option.some Jvm.ClassFile.FieldType.int)) ∈ lw_all := lw_g (lw_at lw_m9 73 rfl) rfl
theorem q2095 : (Jvm.Cond.methodLink "LakeLevelsModel" (102 : Nat) ({ cls := "LakeLevelsModel", name := "way", desc := "(J)I" } : Jvm.MethodName)) ∈ lw_all := lw_g (lw_at lw_m9 74 rfl) rfl
theorem q2096 : (Jvm.Cond.privateMethod ({ cls := "LakeLevelsModel", name := "way", desc := "(J)I" } : Jvm.MethodName)) ∈ lw_tbl := lw_at lw_m9 75 rfl
theorem q2097 : (Jvm.Cond.instanceMethod ({ cls := "LakeLevelsModel", name := "way", desc := "(J)I" } : Jvm.MethodName)) ∈ lw_all := lw_g (lw_at lw_m9 76 rfl) rfl
theorem q2098 : (Jvm.Cond.code ({ cls := "LakeLevelsModel", name := "way", desc := "(J)I" } : Jvm.MethodName) prog_13_method_19_code (7 : Nat) (Option.some Jvm.ClassFile.FieldType.int)) ∈ lw_all := lw_g (lw_at lw_m9 77 rfl) rfl
theorem q2099 : (Jvm.Cond.methodLink "LakeLevelsModel" (111 : Nat) ({ cls := "LakeLevelsModel", name := "lowest", desc := "(J)I" } : Jvm.MethodName)) ∈ lw_all := lw_g (lw_at lw_m9 78 rfl) rfl
theorem q2100 : (Jvm.Cond.static ({ cls := "LakeLevelsModel", name := "lowest", desc := "(J)I" } : Jvm.MethodName)) ∈ lw_all := lw_g (lw_at lw_m9 79 rfl) rfl
theorem q2101 : (Jvm.Cond.code ({ cls := "LakeLevelsModel", name := "lowest", desc := "(J)I" } : Jvm.MethodName) prog_13_method_21_code (3 : Nat) (Option.some Jvm.ClassFile.FieldType.int)) ∈ lw_all := lw_g (lw_at lw_m9 80 rfl) rfl
theorem q2102 : (Jvm.Cond.fieldLink "LakeLevelsModel" (7 : Nat) "LakeLevelsModel" "all" "[J") ∈ lw_all := lw_g (lw_at lw_m9 81 rfl) rfl
theorem q2103 : (Jvm.Cond.fieldLink "LakeLevelsModel" (13 : Nat) "LakeLevelsModel" "saved" "[J") ∈ lw_all := lw_g (lw_at lw_m9 82 rfl) rfl
theorem q2104 : (Jvm.Cond.fieldLink "LakeLevelsModel" (16 : Nat) "LakeLevelsModel" "aside" "[J") ∈ lw_all := lw_g (lw_at lw_m9 83 rfl) rfl
theorem q2105 : (Jvm.Cond.fieldLink "LakeLevelsModel" (58 : Nat) "LakeLevelsModel" "savedMany" "I") ∈ lw_all := lw_g (lw_at lw_m9 84 rfl) rfl
theorem q2106 : (Jvm.Cond.fieldLink "LakeLevelsModel" (54 : Nat) "LakeLevelsModel" "thrown" "I") ∈ lw_all := lw_g (lw_at lw_m9 85 rfl) rfl
theorem q2107 : (Jvm.Cond.fieldLink "LakeLevelsModel" (19 : Nat) "LakeLevelsModel" "ends" "[J") ∈ lw_all := lw_g (lw_at lw_m9 86 rfl) rfl
theorem q2108 : (Jvm.Cond.fieldLink "LakeLevelsModel" (117 : Nat) "LakeLevelsModel" "passA" "I") ∈ lw_all := lw_g (lw_at lw_m9 87 rfl) rfl
theorem q2109 : (Jvm.Cond.fieldLink "LakeLevelsModel" (120 : Nat) "LakeLevelsModel" "passB" "I") ∈ lw_all := lw_g (lw_at lw_m9 88 rfl) rfl
theorem q2110 : (Jvm.Cond.fieldLink "LakeLevelsModel" (114 : Nat) "LakeLevelsModel" "pass" "I") ∈ lw_all := lw_g (lw_at lw_m9 89 rfl) rfl
theorem q2111 : (Jvm.Cond.fieldLink "LakeLevelsModel" (22 : Nat) "LakeLevelsModel" "dueLake" "[I") ∈ lw_all := lw_g (lw_at lw_m9 90 rfl) rfl
theorem q2112 : (Jvm.Cond.fieldLink "LakeLevelsModel" (26 : Nat) "LakeLevelsModel" "dueAmount" "[J") ∈ lw_all := lw_g (lw_at lw_m9 91 rfl) rfl
theorem q2113 : (Jvm.Cond.fieldLink "LakeLevelsModel" (29 : Nat) "LakeLevelsModel" "order" "[I") ∈ lw_all := lw_g (lw_at lw_m9 92 rfl) rfl
theorem q2114 : (Jvm.Cond.fieldLink "LakeLevelsModel" (149 : Nat) "LakeLevelsModel" "lakesMany" "I") ∈ lw_all := lw_g (lw_at lw_m9 93 rfl) rfl
theorem q2115 : (Jvm.Cond.fieldLink "LakeLevelsModel" (159 : Nat) "LakeLevelsModel" "above" "J") ∈ lw_all := lw_g (lw_at lw_m9 94 rfl) rfl
theorem q2116 : (Jvm.Cond.fieldLink "LakeLevelsModel" (155 : Nat) "LakeLevelsModel" "below" "J") ∈ lw_all := lw_g (lw_at lw_m9 95 rfl) rfl
theorem q2117 : (Jvm.Cond.fieldLink "LakeLevelsModel" (32 : Nat) "LakeLevelsModel" "pastVolume" "[J") ∈ lw_all := lw_g (lw_at lw_m9 96 rfl) rfl
theorem q2118 : (Jvm.Cond.fieldLink "LakeLevelsModel" (35 : Nat) "LakeLevelsModel" "pastPlace" "[I") ∈ lw_all := lw_g (lw_at lw_m9 97 rfl) rfl
theorem q2119 : (Jvm.Cond.fieldLink "LakeLevelsModel" (171 : Nat) "LakeLevelsModel" "pastMany" "I") ∈ lw_all := lw_g (lw_at lw_m9 98 rfl) rfl
theorem q2120 : (Jvm.Cond.fieldLink "LakeLevelsModel" (38 : Nat) "LakeLevelsModel" "roundLake" "[I") ∈ lw_all := lw_g (lw_at lw_m9 99 rfl) rfl
theorem q2121 : (Jvm.Cond.fieldLink "LakeLevelsModel" (41 : Nat) "LakeLevelsModel" "roundAmount" "[J") ∈ lw_all := lw_g (lw_at lw_m9 100 rfl) rfl
theorem q2122 : (Jvm.Cond.fieldLink "LakeLevelsModel" (44 : Nat) "LakeLevelsModel" "text" "[I") ∈ lw_all := lw_g (lw_at lw_m9 101 rfl) rfl
theorem q2123 : (Jvm.Cond.fieldLink "LakeLevelsModel" (288 : Nat) "LakeLevelsModel" "textLong" "I") ∈ lw_all := lw_g (lw_at lw_m9 102 rfl) rfl
theorem q2124 : (Jvm.Cond.fieldLink "LakeLevelsModel" (291 : Nat) "LakeLevelsModel" "place" "I") ∈ lw_all := lw_g (lw_at lw_m9 103 rfl) rfl
theorem q2125 : (Jvm.Cond.fieldLink "LakeLevelsModel" (302 : Nat) "LakeLevelsModel" "number" "I") ∈ lw_all := lw_g (lw_at lw_m9 104 rfl) rfl
theorem q2126 : (Jvm.Cond.fieldLink "LakeLevelsModel" (47 : Nat) "LakeLevelsModel" "read" "[I") ∈ lw_all := lw_g (lw_at lw_m9 105 rfl) rfl
theorem q2127 : (Jvm.Cond.laysFinal "LakeLevelsModel" "LakeLevelsModel" "all" "[J") ∈ lw_all := lw_g (lw_at lw_m9 106 rfl) rfl
theorem q2128 : (Jvm.Cond.soleField "LakeLevelsModel" "all") ∈ lw_all := lw_g (lw_at lw_m9 107 rfl) rfl
theorem q2129 : (Jvm.Cond.laysFinal "LakeLevelsModel" "LakeLevelsModel" "saved" "[J") ∈ lw_all := lw_g (lw_at lw_m9 108 rfl) rfl
theorem q2130 : (Jvm.Cond.soleField "LakeLevelsModel" "saved") ∈ lw_all := lw_g (lw_at lw_m9 109 rfl) rfl
theorem q2131 : (Jvm.Cond.laysFinal "LakeLevelsModel" "LakeLevelsModel" "aside" "[J") ∈ lw_all := lw_g (lw_at lw_m9 110 rfl) rfl
theorem q2132 : (Jvm.Cond.soleField "LakeLevelsModel" "aside") ∈ lw_all := lw_g (lw_at lw_m9 111 rfl) rfl
theorem q2133 : (Jvm.Cond.lays "LakeLevelsModel" "LakeLevelsModel" "savedMany" "I") ∈ lw_all := lw_g (lw_at lw_m9 112 rfl) rfl
theorem q2134 : (Jvm.Cond.soleField "LakeLevelsModel" "savedMany") ∈ lw_all := lw_g (lw_at lw_m9 113 rfl) rfl
theorem q2135 : (Jvm.Cond.lays "LakeLevelsModel" "LakeLevelsModel" "thrown" "I") ∈ lw_all := lw_g (lw_at lw_m9 114 rfl) rfl
theorem q2136 : (Jvm.Cond.soleField "LakeLevelsModel" "thrown") ∈ lw_all := lw_g (lw_at lw_m9 115 rfl) rfl
theorem q2137 : (Jvm.Cond.laysFinal "LakeLevelsModel" "LakeLevelsModel" "ends" "[J") ∈ lw_all := lw_g (lw_at lw_m9 116 rfl) rfl
theorem q2138 : (Jvm.Cond.soleField "LakeLevelsModel" "ends") ∈ lw_all := lw_g (lw_at lw_m9 117 rfl) rfl
theorem q2139 : (Jvm.Cond.lays "LakeLevelsModel" "LakeLevelsModel" "passA" "I") ∈ lw_all := lw_g (lw_at lw_m9 118 rfl) rfl
theorem q2140 : (Jvm.Cond.soleField "LakeLevelsModel" "passA") ∈ lw_all := lw_g (lw_at lw_m9 119 rfl) rfl
theorem q2141 : (Jvm.Cond.lays "LakeLevelsModel" "LakeLevelsModel" "passB" "I") ∈ lw_all := lw_g (lw_at lw_m9 120 rfl) rfl
theorem q2142 : (Jvm.Cond.soleField "LakeLevelsModel" "passB") ∈ lw_all := lw_g (lw_at lw_m9 121 rfl) rfl
theorem q2143 : (Jvm.Cond.lays "LakeLevelsModel" "LakeLevelsModel" "pass" "I") ∈ lw_all := lw_g (lw_at lw_m9 122 rfl) rfl
theorem q2144 : (Jvm.Cond.soleField "LakeLevelsModel" "pass") ∈ lw_all := lw_g (lw_at lw_m9 123 rfl) rfl
theorem q2145 : (Jvm.Cond.laysFinal "LakeLevelsModel" "LakeLevelsModel" "dueLake" "[I") ∈ lw_all := lw_g (lw_at lw_m9 124 rfl) rfl
theorem q2146 : (Jvm.Cond.soleField "LakeLevelsModel" "dueLake") ∈ lw_all := lw_g (lw_at lw_m9 125 rfl) rfl
theorem q2147 : (Jvm.Cond.laysFinal "LakeLevelsModel" "LakeLevelsModel" "dueAmount" "[J") ∈ lw_all := lw_g (lw_at lw_m9 126 rfl) rfl
theorem q2148 : (Jvm.Cond.soleField "LakeLevelsModel" "dueAmount") ∈ lw_all := lw_g (lw_at lw_m9 127 rfl) rfl
theorem q2149 : (Jvm.Cond.laysFinal "LakeLevelsModel" "LakeLevelsModel" "order" "[I") ∈ lw_all := lw_g (lw_at lw_m9 128 rfl) rfl
theorem q2150 : (Jvm.Cond.soleField "LakeLevelsModel" "order") ∈ lw_all := lw_g (lw_at lw_m9 129 rfl) rfl
theorem q2151 : (Jvm.Cond.lays "LakeLevelsModel" "LakeLevelsModel" "lakesMany" "I") ∈ lw_all := lw_g (lw_at lw_m9 130 rfl) rfl
theorem q2152 : (Jvm.Cond.soleField "LakeLevelsModel" "lakesMany") ∈ lw_all := lw_g (lw_at lw_m9 131 rfl) rfl
theorem q2153 : (Jvm.Cond.lays "LakeLevelsModel" "LakeLevelsModel" "above" "J") ∈ lw_all := lw_g (lw_at lw_m9 132 rfl) rfl
theorem q2154 : (Jvm.Cond.soleField "LakeLevelsModel" "above") ∈ lw_all := lw_g (lw_at lw_m9 133 rfl) rfl
theorem q2155 : (Jvm.Cond.lays "LakeLevelsModel" "LakeLevelsModel" "below" "J") ∈ lw_all := lw_g (lw_at lw_m9 134 rfl) rfl
theorem q2156 : (Jvm.Cond.soleField "LakeLevelsModel" "below") ∈ lw_all := lw_g (lw_at lw_m9 135 rfl) rfl
theorem q2157 : (Jvm.Cond.laysFinal "LakeLevelsModel" "LakeLevelsModel" "pastVolume" "[J") ∈ lw_all := lw_g (lw_at lw_m9 136 rfl) rfl
theorem q2158 : (Jvm.Cond.soleField "LakeLevelsModel" "pastVolume") ∈ lw_all := lw_g (lw_at lw_m9 137 rfl) rfl
theorem q2159 : (Jvm.Cond.laysFinal "LakeLevelsModel" "LakeLevelsModel" "pastPlace" "[I") ∈ lw_all := lw_g (lw_at lw_m9 138 rfl) rfl
theorem q2160 : (Jvm.Cond.soleField "LakeLevelsModel" "pastPlace") ∈ lw_all := lw_g (lw_at lw_m9 139 rfl) rfl
theorem q2161 : (Jvm.Cond.lays "LakeLevelsModel" "LakeLevelsModel" "pastMany" "I") ∈ lw_all := lw_g (lw_at lw_m9 140 rfl) rfl
theorem q2162 : (Jvm.Cond.soleField "LakeLevelsModel" "pastMany") ∈ lw_all := lw_g (lw_at lw_m9 141 rfl) rfl
theorem q2163 : (Jvm.Cond.laysFinal "LakeLevelsModel" "LakeLevelsModel" "roundLake" "[I") ∈ lw_all := lw_g (lw_at lw_m9 142 rfl) rfl
theorem q2164 : (Jvm.Cond.soleField "LakeLevelsModel" "roundLake") ∈ lw_all := lw_g (lw_at lw_m9 143 rfl) rfl
theorem q2165 : (Jvm.Cond.laysFinal "LakeLevelsModel" "LakeLevelsModel" "roundAmount" "[J") ∈ lw_all := lw_g (lw_at lw_m9 144 rfl) rfl
theorem q2166 : (Jvm.Cond.soleField "LakeLevelsModel" "roundAmount") ∈ lw_all := lw_g (lw_at lw_m9 145 rfl) rfl
theorem q2167 : (Jvm.Cond.laysFinal "LakeLevelsModel" "LakeLevelsModel" "text" "[I") ∈ lw_all := lw_g (lw_at lw_m9 146 rfl) rfl
theorem q2168 : (Jvm.Cond.soleField "LakeLevelsModel" "text") ∈ lw_all := lw_g (lw_at lw_m9 147 rfl) rfl
theorem q2169 : (Jvm.Cond.lays "LakeLevelsModel" "LakeLevelsModel" "textLong" "I") ∈ lw_all := lw_g (lw_at lw_m9 148 rfl) rfl
theorem q2170 : (Jvm.Cond.soleField "LakeLevelsModel" "textLong") ∈ lw_all := lw_g (lw_at lw_m9 149 rfl) rfl
theorem q2171 : (Jvm.Cond.lays "LakeLevelsModel" "LakeLevelsModel" "place" "I") ∈ lw_all := lw_g (lw_at lw_m9 150 rfl) rfl
theorem q2172 : (Jvm.Cond.soleField "LakeLevelsModel" "place") ∈ lw_all := lw_g (lw_at lw_m9 151 rfl) rfl
theorem q2173 : (Jvm.Cond.lays "LakeLevelsModel" "LakeLevelsModel" "number" "I") ∈ lw_all := lw_g (lw_at lw_m9 152 rfl) rfl
theorem q2174 : (Jvm.Cond.soleField "LakeLevelsModel" "number") ∈ lw_all := lw_g (lw_at lw_m9 153 rfl) rfl
theorem q2175 : (Jvm.Cond.laysFinal "LakeLevelsModel" "LakeLevelsModel" "read" "[I") ∈ lw_all := lw_g (lw_at lw_m9 154 rfl) rfl
theorem q2176 : (Jvm.Cond.soleField "LakeLevelsModel" "read") ∈ lw_all := lw_g (lw_at lw_m9 155 rfl) rfl
theorem q2177 : (Jvm.Cond.superclass "LakeLevelsModel" "java/lang/Object") ∈ lw_all := lw_g (lw_at lw_m9 156 rfl) rfl
theorem q2179 : (Jvm.Cond.instanceMethod ({ cls := "LakeLevelsModel", name := "thrown", desc := "()I" } : Jvm.MethodName)) ∈ lw_all := lw_g (lw_at lw_m9 158 rfl) rfl
theorem q2180 : (Jvm.Cond.selects "LakeLevelsModel" ({ cls := "LakeLevelsModel", name := "thrown", desc := "()I" } : Jvm.MethodName) ({ cls := "LakeLevelsModel", name := "thrown", desc := "()I" } : Jvm.MethodName)) ∈ lw_all := lw_g (lw_at lw_m9 159 rfl) rfl
theorem q2181 : (Jvm.Cond.code ({ cls := "LakeLevelsModel", name := "thrown", desc := "()I" } : Jvm.MethodName) prog_13_method_2_code (1 : Nat) (Option.some Jvm.ClassFile.FieldType.int)) ∈ lw_all := lw_g (lw_at lw_m9 160 rfl) rfl
theorem q2183 : (Jvm.Cond.instanceMethod ({ cls := "LakeLevelsModel", name := "begin", desc := "(II)I" } : Jvm.MethodName)) ∈ lw_all := lw_g (lw_at lw_m9 162 rfl) rfl
theorem q2184 : (Jvm.Cond.selects "LakeLevelsModel" ({ cls := "LakeLevelsModel", name := "begin", desc := "(II)I" } : Jvm.MethodName) ({ cls := "LakeLevelsModel", name := "begin", desc := "(II)I" } : Jvm.MethodName)) ∈ lw_all := lw_g (lw_at lw_m9 163 rfl) rfl
theorem q2185 : (Jvm.Cond.code ({ cls := "LakeLevelsModel", name := "begin", desc := "(II)I" } : Jvm.MethodName) prog_13_method_46_code (3 : Nat) (Option.some Jvm.ClassFile.FieldType.int)) ∈ lw_all := lw_g (lw_at lw_m9 164 rfl) rfl
theorem q2186 : (Jvm.Cond.constantLong "LakeLevelsModel" (181 : Nat) (6 : Int64)) ∈ lw_all := lw_g (lw_at lw_m9 165 rfl) rfl
theorem q2187 : (Jvm.Cond.methodLink "LakeLevelsModel" (65 : Nat) ({ cls := "LakeLevelsModel", name := "in", desc := "(JJJ)Z" } : Jvm.MethodName)) ∈ lw_all := lw_g (lw_at lw_m9 166 rfl) rfl
theorem q2188 : (Jvm.Cond.static ({ cls := "LakeLevelsModel", name := "in", desc := "(JJJ)Z" } : Jvm.MethodName)) ∈ lw_all := lw_g (lw_at lw_m9 167 rfl) rfl
theorem q2189 : (Jvm.Cond.code ({ cls := "LakeLevelsModel", name := "in", desc := "(JJJ)Z" } : Jvm.MethodName) prog_13_method_3_code (6 : Nat) (Option.some Jvm.ClassFile.FieldType.boolean)) ∈ lw_all := lw_g (lw_at lw_m9 168 rfl) rfl
theorem q2190 : (Jvm.Cond.methodLink "LakeLevelsModel" (183 : Nat) ({ cls := "LakeLevelsModel", name := "goes", desc := "(ZZZ)Z" } : Jvm.MethodName)) ∈ lw_all := lw_g (lw_at lw_m9 169 rfl) rfl
theorem q2191 : (Jvm.Cond.privateMethod ({ cls := "LakeLevelsModel", name := "goes", desc := "(ZZZ)Z" } : Jvm.MethodName)) ∈ lw_tbl := lw_at lw_m9 170 rfl
theorem q2192 : (Jvm.Cond.instanceMethod ({ cls := "LakeLevelsModel", name := "goes", desc := "(ZZZ)Z" } : Jvm.MethodName)) ∈ lw_all := lw_g (lw_at lw_m9 171 rfl) rfl
theorem q2193 : (Jvm.Cond.code ({ cls := "LakeLevelsModel", name := "goes", desc := "(ZZZ)Z" } : Jvm.MethodName) prog_13_method_4_code (4 : Nat) (Option.some Jvm.ClassFile.FieldType.boolean)) ∈ lw_all := lw_g (lw_at lw_m9 172 rfl) rfl
theorem q2194 : (Jvm.Cond.methodLink "LakeLevelsModel" (187 : Nat) ({ cls := "LakeLevelsModel", name := "save", desc := "()V" } : Jvm.MethodName)) ∈ lw_all := lw_g (lw_at lw_m9 173 rfl) rfl
theorem q2195 : (Jvm.Cond.privateMethod ({ cls := "LakeLevelsModel", name := "save", desc := "()V" } : Jvm.MethodName)) ∈ lw_tbl := lw_at lw_m9 174 rfl
theorem q2196 : (Jvm.Cond.instanceMethod ({ cls := "LakeLevelsModel", name := "save", desc := "()V" } : Jvm.MethodName)) ∈ lw_all := lw_g (lw_at lw_m9 175 rfl) rfl
theorem q2197 : (Jvm.Cond.code ({ cls := "LakeLevelsModel", name := "save", desc := "()V" } : Jvm.MethodName) prog_13_method_5_code (2 : Nat) (Option.none : Option Jvm.ClassFile.FieldType)) ∈ lw_all := lw_g (lw_at lw_m9 176 rfl) rfl
theorem q2199 : (Jvm.Cond.instanceMethod ({ cls := "LakeLevelsModel", name := "setHeight", desc := "(II)I" } : Jvm.MethodName)) ∈ lw_all := lw_g (lw_at lw_m9 178 rfl) rfl
theorem q2200 : (Jvm.Cond.selects "LakeLevelsModel" ({ cls := "LakeLevelsModel", name := "setHeight", desc := "(II)I" } : Jvm.MethodName) ({ cls := "LakeLevelsModel", name := "setHeight", desc := "(II)I" } : Jvm.MethodName)) ∈ lw_all := lw_g (lw_at lw_m9 179 rfl) rfl
theorem q2201 : (Jvm.Cond.code ({ cls := "LakeLevelsModel", name := "setHeight", desc := "(II)I" } : Jvm.MethodName) prog_13_method_47_code (4 : Nat) (Option.some Jvm.ClassFile.FieldType.int)) ∈ lw_all := lw_g (lw_at lw_m9 180 rfl) rfl
theorem q2202 : (Jvm.Cond.methodLink "LakeLevelsModel" (73 : Nat) ({ cls := "LakeLevelsModel", name := "isCell", desc := "(I)Z" } : Jvm.MethodName)) ∈ lw_all := lw_g (lw_at lw_m9 181 rfl) rfl
theorem q2203 : (Jvm.Cond.privateMethod ({ cls := "LakeLevelsModel", name := "isCell", desc := "(I)Z" } : Jvm.MethodName)) ∈ lw_tbl := lw_at lw_m9 182 rfl
theorem q2204 : (Jvm.Cond.instanceMethod ({ cls := "LakeLevelsModel", name := "isCell", desc := "(I)Z" } : Jvm.MethodName)) ∈ lw_all := lw_g (lw_at lw_m9 183 rfl) rfl
theorem q2205 : (Jvm.Cond.code ({ cls := "LakeLevelsModel", name := "isCell", desc := "(I)Z" } : Jvm.MethodName) prog_13_method_9_code (2 : Nat) (Option.some Jvm.ClassFile.FieldType.boolean)) ∈ lw_all := lw_g (lw_at lw_m9 184 rfl) rfl
theorem q2206 : (Jvm.Cond.constantLong "LakeLevelsModel" (190 : Nat) (99 : Int64)) ∈ lw_all := lw_g (lw_at lw_m9 185 rfl) rfl
theorem q2207 : (Jvm.Cond.methodLink "LakeLevelsModel" (192 : Nat) ({ cls := "LakeLevelsModel", name := "remembers", desc := "()V" } : Jvm.MethodName)) ∈ lw_all := lw_g (lw_at lw_m9 186 rfl) rfl
theorem q2208 : (Jvm.Cond.privateMethod ({ cls := "LakeLevelsModel", name := "remembers", desc := "()V" } : Jvm.MethodName)) ∈ lw_tbl := lw_at lw_m9 187 rfl
theorem q2209 : (Jvm.Cond.instanceMethod ({ cls := "LakeLevelsModel", name := "remembers", desc := "()V" } : Jvm.MethodName)) ∈ lw_all := lw_g (lw_at lw_m9 188 rfl) rfl
theorem q2210 : (Jvm.Cond.code ({ cls := "LakeLevelsModel", name := "remembers", desc := "()V" } : Jvm.MethodName) prog_13_method_43_code (5 : Nat) (Option.none : Option Jvm.ClassFile.FieldType)) ∈ lw_all := lw_g (lw_at lw_m9 189 rfl) rfl
theorem q2211 : (Jvm.Cond.methodLink "LakeLevelsModel" (152 : Nat) ({ cls := "LakeLevelsModel", name := "orders", desc := "()V" } : Jvm.MethodName)) ∈ lw_all := lw_g (lw_at lw_m9 190 rfl) rfl
theorem q2212 : (Jvm.Cond.privateMethod ({ cls := "LakeLevelsModel", name := "orders", desc := "()V" } : Jvm.MethodName)) ∈ lw_tbl := lw_at lw_m9 191 rfl
theorem q2213 : (Jvm.Cond.instanceMethod ({ cls := "LakeLevelsModel", name := "orders", desc := "()V" } : Jvm.MethodName)) ∈ lw_all := lw_g (lw_at lw_m9 192 rfl) rfl
theorem q2214 : (Jvm.Cond.code ({ cls := "LakeLevelsModel", name := "orders", desc := "()V" } : Jvm.MethodName) prog_13_method_33_code (3 : Nat) (Option.none : Option Jvm.ClassFile.FieldType)) ∈ lw_all := lw_g (lw_at lw_m9 193 rfl) rfl
theorem q2215 : (Jvm.Cond.methodLink "LakeLevelsModel" (133 : Nat) ({ cls := "LakeLevelsModel", name := "lakeOf", desc := "(I)I" } : Jvm.MethodName)) ∈ lw_all := lw_g (lw_at lw_m9 194 rfl) rfl
theorem q2216 : (Jvm.Cond.privateMethod ({ cls := "LakeLevelsModel", name := "lakeOf", desc := "(I)I" } : Jvm.MethodName)) ∈ lw_tbl := lw_at lw_m9 195 rfl
theorem q2217 : (Jvm.Cond.instanceMethod ({ cls := "LakeLevelsModel", name := "lakeOf", desc := "(I)I" } : Jvm.MethodName)) ∈ lw_all := lw_g (lw_at lw_m9 196 rfl) rfl
theorem q2218 : (Jvm.Cond.code ({ cls := "LakeLevelsModel", name := "lakeOf", desc := "(I)I" } : Jvm.MethodName) prog_13_method_28_code (4 : Nat) (Option.some Jvm.ClassFile.FieldType.int)) ∈ lw_all := lw_g (lw_at lw_m9 197 rfl) rfl
theorem q2219 : (Jvm.Cond.methodLink "LakeLevelsModel" (195 : Nat) ({ cls := "LakeLevelsModel", name := "changes", desc := "()V" } : Jvm.MethodName)) ∈ lw_all := lw_g (lw_at lw_m9 198 rfl) rfl
theorem q2220 : (Jvm.Cond.privateMethod ({ cls := "LakeLevelsModel", name := "changes", desc := "()V" } : Jvm.MethodName)) ∈ lw_tbl := lw_at lw_m9 199 rfl
theorem q2221 : (Jvm.Cond.instanceMethod ({ cls := "LakeLevelsModel", name := "changes", desc := "()V" } : Jvm.MethodName)) ∈ lw_all := lw_g (lw_at lw_m9 200 rfl) rfl
theorem q2222 : (Jvm.Cond.code ({ cls := "LakeLevelsModel", name := "changes", desc := "()V" } : Jvm.MethodName) prog_13_method_44_code (2 : Nat) (Option.none : Option Jvm.ClassFile.FieldType)) ∈ lw_all := lw_g (lw_at lw_m9 201 rfl) rfl
theorem q2223 : (Jvm.Cond.methodLink "LakeLevelsModel" (177 : Nat) ({ cls := "LakeLevelsModel", name := "pours", desc := "(IJ)V" } : Jvm.MethodName)) ∈ lw_all := lw_g (lw_at lw_m9 202 rfl) rfl
theorem q2224 : (Jvm.Cond.privateMethod ({ cls := "LakeLevelsModel", name := "pours", desc := "(IJ)V" } : Jvm.MethodName)) ∈ lw_tbl := lw_at lw_m9 203 rfl
theorem q2225 : (Jvm.Cond.instanceMethod ({ cls := "LakeLevelsModel", name := "pours", desc := "(IJ)V" } : Jvm.MethodName)) ∈ lw_all := lw_g (lw_at lw_m9 204 rfl) rfl
theorem q2226 : (Jvm.Cond.code ({ cls := "LakeLevelsModel", name := "pours", desc := "(IJ)V" } : Jvm.MethodName) prog_13_method_30_code (15 : Nat) (Option.none : Option Jvm.ClassFile.FieldType)) ∈ lw_all := lw_g (lw_at lw_m9 205 rfl) rfl
theorem q2227 : (Jvm.Cond.methodLink "LakeLevelsModel" (127 : Nat) ({ cls := "LakeLevelsModel", name := "capacity", desc := "(I)J" } : Jvm.MethodName)) ∈ lw_all := lw_g (lw_at lw_m9 206 rfl) rfl
theorem q2228 : (Jvm.Cond.privateMethod ({ cls := "LakeLevelsModel", name := "capacity", desc := "(I)J" } : Jvm.MethodName)) ∈ lw_tbl := lw_at lw_m9 207 rfl
theorem q2229 : (Jvm.Cond.instanceMethod ({ cls := "LakeLevelsModel", name := "capacity", desc := "(I)J" } : Jvm.MethodName)) ∈ lw_all := lw_g (lw_at lw_m9 208 rfl) rfl
theorem q2230 : (Jvm.Cond.code ({ cls := "LakeLevelsModel", name := "capacity", desc := "(I)J" } : Jvm.MethodName) prog_13_method_24_code (5 : Nat) (Option.some Jvm.ClassFile.FieldType.long)) ∈ lw_all := lw_g (lw_at lw_m9 209 rfl) rfl
theorem q2231 : (Jvm.Cond.methodLink "LakeLevelsModel" (123 : Nat) ({ cls := "LakeLevelsModel", name := "findsPass", desc := "(I)V" } : Jvm.MethodName)) ∈ lw_all := lw_g (lw_at lw_m9 210 rfl) rfl
theorem q2232 : (Jvm.Cond.privateMethod ({ cls := "LakeLevelsModel", name := "findsPass", desc := "(I)V" } : Jvm.MethodName)) ∈ lw_tbl := lw_at lw_m9 211 rfl
theorem q2233 : (Jvm.Cond.instanceMethod ({ cls := "LakeLevelsModel", name := "findsPass", desc := "(I)V" } : Jvm.MethodName)) ∈ lw_all := lw_g (lw_at lw_m9 212 rfl) rfl
theorem q2234 : (Jvm.Cond.code ({ cls := "LakeLevelsModel", name := "findsPass", desc := "(I)V" } : Jvm.MethodName) prog_13_method_23_code (7 : Nat) (Option.none : Option Jvm.ClassFile.FieldType)) ∈ lw_all := lw_g (lw_at lw_m9 213 rfl) rfl
theorem q2235 : (Jvm.Cond.methodLink "LakeLevelsModel" (136 : Nat) ({ cls := "LakeLevelsModel", name := "isFull", desc := "(I)Z" } : Jvm.MethodName)) ∈ lw_all := lw_g (lw_at lw_m9 214 rfl) rfl
theorem q2236 : (Jvm.Cond.privateMethod ({ cls := "LakeLevelsModel", name := "isFull", desc := "(I)Z" } : Jvm.MethodName)) ∈ lw_tbl := lw_at lw_m9 215 rfl
theorem q2237 : (Jvm.Cond.instanceMethod ({ cls := "LakeLevelsModel", name := "isFull", desc := "(I)Z" } : Jvm.MethodName)) ∈ lw_all := lw_g (lw_at lw_m9 216 rfl) rfl
theorem q2238 : (Jvm.Cond.code ({ cls := "LakeLevelsModel", name := "isFull", desc := "(I)Z" } : Jvm.MethodName) prog_13_method_25_code (2 : Nat) (Option.some Jvm.ClassFile.FieldType.boolean)) ∈ lw_all := lw_g (lw_at lw_m9 217 rfl) rfl
theorem q2239 : (Jvm.Cond.methodLink "LakeLevelsModel" (139 : Nat) ({ cls := "LakeLevelsModel", name := "join", desc := "(II)I" } : Jvm.MethodName)) ∈ lw_all := lw_g (lw_at lw_m9 218 rfl) rfl
theorem q2240 : (Jvm.Cond.privateMethod ({ cls := "LakeLevelsModel", name := "join", desc := "(II)I" } : Jvm.MethodName)) ∈ lw_tbl := lw_at lw_m9 219 rfl
theorem q2241 : (Jvm.Cond.instanceMethod ({ cls := "LakeLevelsModel", name := "join", desc := "(II)I" } : Jvm.MethodName)) ∈ lw_all := lw_g (lw_at lw_m9 220 rfl) rfl
theorem q2242 : (Jvm.Cond.code ({ cls := "LakeLevelsModel", name := "join", desc := "(II)I" } : Jvm.MethodName) prog_13_method_29_code (4 : Nat) (Option.some Jvm.ClassFile.FieldType.int)) ∈ lw_all := lw_g (lw_at lw_m9 221 rfl) rfl
theorem q2244 : (Jvm.Cond.instanceMethod ({ cls := "LakeLevelsModel", name := "setDrain", desc := "(IZ)Z" } : Jvm.MethodName)) ∈ lw_all := lw_g (lw_at lw_m9 223 rfl) rfl
theorem q2245 : (Jvm.Cond.selects "LakeLevelsModel" ({ cls := "LakeLevelsModel", name := "setDrain", desc := "(IZ)Z" } : Jvm.MethodName) ({ cls := "LakeLevelsModel", name := "setDrain", desc := "(IZ)Z" } : Jvm.MethodName)) ∈ lw_all := lw_g (lw_at lw_m9 224 rfl) rfl
theorem q2246 : (Jvm.Cond.code ({ cls := "LakeLevelsModel", name := "setDrain", desc := "(IZ)Z" } : Jvm.MethodName) prog_13_method_48_code (4 : Nat) (Option.some Jvm.ClassFile.FieldType.boolean)) ∈ lw_all := lw_g (lw_at lw_m9 225 rfl) rfl
theorem q2248 : (Jvm.Cond.instanceMethod ({ cls := "LakeLevelsModel", name := "setGate", desc := "(III)I" } : Jvm.MethodName)) ∈ lw_all := lw_g (lw_at lw_m9 227 rfl) rfl
theorem q2249 : (Jvm.Cond.selects "LakeLevelsModel" ({ cls := "LakeLevelsModel", name := "setGate", desc := "(III)I" } : Jvm.MethodName) ({ cls := "LakeLevelsModel", name := "setGate", desc := "(III)I" } : Jvm.MethodName)) ∈ lw_all := lw_g (lw_at lw_m9 228 rfl) rfl
theorem q2250 : (Jvm.Cond.code ({ cls := "LakeLevelsModel", name := "setGate", desc := "(III)I" } : Jvm.MethodName) prog_13_method_49_code (5 : Nat) (Option.some Jvm.ClassFile.FieldType.int)) ∈ lw_all := lw_g (lw_at lw_m9 229 rfl) rfl
theorem q2251 : (Jvm.Cond.methodLink "LakeLevelsModel" (198 : Nat) ({ cls := "LakeLevelsModel", name := "isPair", desc := "(II)Z" } : Jvm.MethodName)) ∈ lw_all := lw_g (lw_at lw_m9 230 rfl) rfl
theorem q2252 : (Jvm.Cond.privateMethod ({ cls := "LakeLevelsModel", name := "isPair", desc := "(II)Z" } : Jvm.MethodName)) ∈ lw_tbl := lw_at lw_m9 231 rfl
theorem q2253 : (Jvm.Cond.instanceMethod ({ cls := "LakeLevelsModel", name := "isPair", desc := "(II)Z" } : Jvm.MethodName)) ∈ lw_all := lw_g (lw_at lw_m9 232 rfl) rfl
theorem q2254 : (Jvm.Cond.code ({ cls := "LakeLevelsModel", name := "isPair", desc := "(II)Z" } : Jvm.MethodName) prog_13_method_13_code (3 : Nat) (Option.some Jvm.ClassFile.FieldType.boolean)) ∈ lw_all := lw_g (lw_at lw_m9 233 rfl) rfl
theorem q2255 : (Jvm.Cond.methodLink "LakeLevelsModel" (77 : Nat) ({ cls := "LakeLevelsModel", name := "areNeighbors", desc := "(II)Z" } : Jvm.MethodName)) ∈ lw_all := lw_g (lw_at lw_m9 234 rfl) rfl
theorem q2256 : (Jvm.Cond.privateMethod ({ cls := "LakeLevelsModel", name := "areNeighbors", desc := "(II)Z" } : Jvm.MethodName)) ∈ lw_tbl := lw_at lw_m9 235 rfl
theorem q2257 : (Jvm.Cond.instanceMethod ({ cls := "LakeLevelsModel", name := "areNeighbors", desc := "(II)Z" } : Jvm.MethodName)) ∈ lw_all := lw_g (lw_at lw_m9 236 rfl) rfl
theorem q2258 : (Jvm.Cond.code ({ cls := "LakeLevelsModel", name := "areNeighbors", desc := "(II)Z" } : Jvm.MethodName) prog_13_method_12_code (5 : Nat) (Option.some Jvm.ClassFile.FieldType.boolean)) ∈ lw_all := lw_g (lw_at lw_m9 237 rfl) rfl
theorem q2260 : (Jvm.Cond.instanceMethod ({ cls := "LakeLevelsModel", name := "random", desc := "(II)I" } : Jvm.MethodName)) ∈ lw_all := lw_g (lw_at lw_m9 239 rfl) rfl
theorem q2261 : (Jvm.Cond.selects "LakeLevelsModel" ({ cls := "LakeLevelsModel", name := "random", desc := "(II)I" } : Jvm.MethodName) ({ cls := "LakeLevelsModel", name := "random", desc := "(II)I" } : Jvm.MethodName)) ∈ lw_all := lw_g (lw_at lw_m10 0 rfl) rfl
theorem q2262 : (Jvm.Cond.code ({ cls := "LakeLevelsModel", name := "random", desc := "(II)I" } : Jvm.MethodName) prog_13_method_50_code (6 : Nat) (Option.some Jvm.ClassFile.FieldType.int)) ∈ lw_all := lw_g (lw_at lw_m10 1 rfl) rfl
theorem q2263 : (Jvm.Cond.constantLong "LakeLevelsModel" (201 : Nat) (999999 : Int64)) ∈ lw_all := lw_g (lw_at lw_m10 2 rfl) rfl
theorem q2264 : (Jvm.Cond.constantLong "LakeLevelsModel" (203 : Nat) (1103515245 : Int64)) ∈ lw_all := lw_g (lw_at lw_m10 3 rfl) rfl
theorem q2265 : (Jvm.Cond.constantLong "LakeLevelsModel" (205 : Nat) (12345 : Int64)) ∈ lw_all := lw_g (lw_at lw_m10 4 rfl) rfl
theorem q2266 : (Jvm.Cond.constantLong "LakeLevelsModel" (207 : Nat) (2147483648 : Int64)) ∈ lw_all := lw_g (lw_at lw_m10 5 rfl) rfl
theorem q2267 : (Jvm.Cond.constantLong "LakeLevelsModel" (209 : Nat) (65536 : Int64)) ∈ lw_all := lw_g (lw_at lw_m10 6 rfl) rfl
theorem q2269 : (Jvm.Cond.instanceMethod ({ cls := "LakeLevelsModel", name := "cell", desc := "(II)I" } : Jvm.MethodName)) ∈ lw_all := lw_g (lw_at lw_m10 8 rfl) rfl
theorem q2270 : (Jvm.Cond.selects "LakeLevelsModel" ({ cls := "LakeLevelsModel", name := "cell", desc := "(II)I" } : Jvm.MethodName) ({ cls := "LakeLevelsModel", name := "cell", desc := "(II)I" } : Jvm.MethodName)) ∈ lw_all := lw_g (lw_at lw_m10 9 rfl) rfl
theorem q2271 : (Jvm.Cond.code ({ cls := "LakeLevelsModel", name := "cell", desc := "(II)I" } : Jvm.MethodName) prog_13_method_52_code (3 : Nat) (Option.some Jvm.ClassFile.FieldType.int)) ∈ lw_all := lw_g (lw_at lw_m10 10 rfl) rfl
theorem q2272 : (Jvm.Cond.constantLong "LakeLevelsModel" (214 : Nat) (5 : Int64)) ∈ lw_all := lw_g (lw_at lw_m10 11 rfl) rfl
theorem q2273 : (Jvm.Cond.methodLink "LakeLevelsModel" (216 : Nat) ({ cls := "LakeLevelsModel", name := "cellValue", desc := "(II)I" } : Jvm.MethodName)) ∈ lw_all := lw_g (lw_at lw_m10 12 rfl) rfl
theorem q2274 : (Jvm.Cond.privateMethod ({ cls := "LakeLevelsModel", name := "cellValue", desc := "(II)I" } : Jvm.MethodName)) ∈ lw_tbl := lw_at lw_m10 13 rfl
theorem q2275 : (Jvm.Cond.instanceMethod ({ cls := "LakeLevelsModel", name := "cellValue", desc := "(II)I" } : Jvm.MethodName)) ∈ lw_all := lw_g (lw_at lw_m10 14 rfl) rfl
theorem q2276 : (Jvm.Cond.code ({ cls := "LakeLevelsModel", name := "cellValue", desc := "(II)I" } : Jvm.MethodName) prog_13_method_51_code (4 : Nat) (Option.some Jvm.ClassFile.FieldType.int)) ∈ lw_all := lw_g (lw_at lw_m10 15 rfl) rfl
theorem q2277 : (Jvm.Cond.methodLink "LakeLevelsModel" (211 : Nat) ({ cls := "LakeLevelsModel", name := "numberOf", desc := "(I)I" } : Jvm.MethodName)) ∈ lw_all := lw_g (lw_at lw_m10 16 rfl) rfl
theorem q2278 : (Jvm.Cond.privateMethod ({ cls := "LakeLevelsModel", name := "numberOf", desc := "(I)I" } : Jvm.MethodName)) ∈ lw_tbl := lw_at lw_m10 17 rfl
theorem q2279 : (Jvm.Cond.instanceMethod ({ cls := "LakeLevelsModel", name := "numberOf", desc := "(I)I" } : Jvm.MethodName)) ∈ lw_all := lw_g (lw_at lw_m10 18 rfl) rfl
theorem q2280 : (Jvm.Cond.code ({ cls := "LakeLevelsModel", name := "numberOf", desc := "(I)I" } : Jvm.MethodName) prog_13_method_34_code (3 : Nat) (Option.some Jvm.ClassFile.FieldType.int)) ∈ lw_all := lw_g (lw_at lw_m10 19 rfl) rfl
theorem q2281 : (Jvm.Cond.methodLink "LakeLevelsModel" (165 : Nat) ({ cls := "LakeLevelsModel", name := "isWet", desc := "(I)Z" } : Jvm.MethodName)) ∈ lw_all := lw_g (lw_at lw_m10 20 rfl) rfl
theorem q2282 : (Jvm.Cond.privateMethod ({ cls := "LakeLevelsModel", name := "isWet", desc := "(I)Z" } : Jvm.MethodName)) ∈ lw_tbl := lw_at lw_m10 21 rfl
theorem q2283 : (Jvm.Cond.instanceMethod ({ cls := "LakeLevelsModel", name := "isWet", desc := "(I)Z" } : Jvm.MethodName)) ∈ lw_all := lw_g (lw_at lw_m10 22 rfl) rfl
theorem q2284 : (Jvm.Cond.code ({ cls := "LakeLevelsModel", name := "isWet", desc := "(I)Z" } : Jvm.MethodName) prog_13_method_38_code (3 : Nat) (Option.some Jvm.ClassFile.FieldType.boolean)) ∈ lw_all := lw_g (lw_at lw_m10 23 rfl) rfl
theorem q2285 : (Jvm.Cond.methodLink "LakeLevelsModel" (162 : Nat) ({ cls := "LakeLevelsModel", name := "levels", desc := "(I)V" } : Jvm.MethodName)) ∈ lw_all := lw_g (lw_at lw_m10 24 rfl) rfl
theorem q2286 : (Jvm.Cond.privateMethod ({ cls := "LakeLevelsModel", name := "levels", desc := "(I)V" } : Jvm.MethodName)) ∈ lw_tbl := lw_at lw_m10 25 rfl
theorem q2287 : (Jvm.Cond.instanceMethod ({ cls := "LakeLevelsModel", name := "levels", desc := "(I)V" } : Jvm.MethodName)) ∈ lw_all := lw_g (lw_at lw_m10 26 rfl) rfl
theorem q2288 : (Jvm.Cond.code ({ cls := "LakeLevelsModel", name := "levels", desc := "(I)V" } : Jvm.MethodName) prog_13_method_37_code (11 : Nat) (Option.none : Option Jvm.ClassFile.FieldType)) ∈ lw_all := lw_g (lw_at lw_m10 27 rfl) rfl
theorem q2290 : (Jvm.Cond.instanceMethod ({ cls := "LakeLevelsModel", name := "between", desc := "(IIZ)I" } : Jvm.MethodName)) ∈ lw_all := lw_g (lw_at lw_m10 29 rfl) rfl
theorem q2291 : (Jvm.Cond.selects "LakeLevelsModel" ({ cls := "LakeLevelsModel", name := "between", desc := "(IIZ)I" } : Jvm.MethodName) ({ cls := "LakeLevelsModel", name := "between", desc := "(IIZ)I" } : Jvm.MethodName)) ∈ lw_all := lw_g (lw_at lw_m10 30 rfl) rfl
theorem q2292 : (Jvm.Cond.code ({ cls := "LakeLevelsModel", name := "between", desc := "(IIZ)I" } : Jvm.MethodName) prog_13_method_53_code (4 : Nat) (Option.some Jvm.ClassFile.FieldType.int)) ∈ lw_all := lw_g (lw_at lw_m10 31 rfl) rfl
theorem q2294 : (Jvm.Cond.instanceMethod ({ cls := "LakeLevelsModel", name := "count", desc := "(I)I" } : Jvm.MethodName)) ∈ lw_all := lw_g (lw_at lw_m10 33 rfl) rfl
theorem q2295 : (Jvm.Cond.selects "LakeLevelsModel" ({ cls := "LakeLevelsModel", name := "count", desc := "(I)I" } : Jvm.MethodName) ({ cls := "LakeLevelsModel", name := "count", desc := "(I)I" } : Jvm.MethodName)) ∈ lw_all := lw_g (lw_at lw_m10 34 rfl) rfl
theorem q2296 : (Jvm.Cond.code ({ cls := "LakeLevelsModel", name := "count", desc := "(I)I" } : Jvm.MethodName) prog_13_method_56_code (2 : Nat) (Option.some Jvm.ClassFile.FieldType.int)) ∈ lw_all := lw_g (lw_at lw_m10 35 rfl) rfl
theorem q2297 : (Jvm.Cond.methodLink "LakeLevelsModel" (225 : Nat) ({ cls := "LakeLevelsModel", name := "countOf", desc := "(I)I" } : Jvm.MethodName)) ∈ lw_all := lw_g (lw_at lw_m10 36 rfl) rfl
theorem q2298 : (Jvm.Cond.privateMethod ({ cls := "LakeLevelsModel", name := "countOf", desc := "(I)I" } : Jvm.MethodName)) ∈ lw_tbl := lw_at lw_m10 37 rfl
theorem q2299 : (Jvm.Cond.instanceMethod ({ cls := "LakeLevelsModel", name := "countOf", desc := "(I)I" } : Jvm.MethodName)) ∈ lw_all := lw_g (lw_at lw_m10 38 rfl) rfl
theorem q2300 : (Jvm.Cond.code ({ cls := "LakeLevelsModel", name := "countOf", desc := "(I)I" } : Jvm.MethodName) prog_13_method_55_code (4 : Nat) (Option.some Jvm.ClassFile.FieldType.int)) ∈ lw_all := lw_g (lw_at lw_m10 39 rfl) rfl
theorem q2301 : (Jvm.Cond.methodLink "LakeLevelsModel" (219 : Nat) ({ cls := "LakeLevelsModel", name := "wet", desc := "()I" } : Jvm.MethodName)) ∈ lw_all := lw_g (lw_at lw_m10 40 rfl) rfl
theorem q2302 : (Jvm.Cond.privateMethod ({ cls := "LakeLevelsModel", name := "wet", desc := "()I" } : Jvm.MethodName)) ∈ lw_tbl := lw_at lw_m10 41 rfl
theorem q2303 : (Jvm.Cond.instanceMethod ({ cls := "LakeLevelsModel", name := "wet", desc := "()I" } : Jvm.MethodName)) ∈ lw_all := lw_g (lw_at lw_m10 42 rfl) rfl
theorem q2304 : (Jvm.Cond.code ({ cls := "LakeLevelsModel", name := "wet", desc := "()I" } : Jvm.MethodName) prog_13_method_40_code (1 : Nat) (Option.some Jvm.ClassFile.FieldType.int)) ∈ lw_all := lw_g (lw_at lw_m10 43 rfl) rfl
theorem q2305 : (Jvm.Cond.methodLink "LakeLevelsModel" (168 : Nat) ({ cls := "LakeLevelsModel", name := "wetOf", desc := "(J)I" } : Jvm.MethodName)) ∈ lw_all := lw_g (lw_at lw_m10 44 rfl) rfl
theorem q2306 : (Jvm.Cond.privateMethod ({ cls := "LakeLevelsModel", name := "wetOf", desc := "(J)I" } : Jvm.MethodName)) ∈ lw_tbl := lw_at lw_m10 45 rfl
theorem q2307 : (Jvm.Cond.instanceMethod ({ cls := "LakeLevelsModel", name := "wetOf", desc := "(J)I" } : Jvm.MethodName)) ∈ lw_all := lw_g (lw_at lw_m10 46 rfl) rfl
theorem q2308 : (Jvm.Cond.code ({ cls := "LakeLevelsModel", name := "wetOf", desc := "(J)I" } : Jvm.MethodName) prog_13_method_39_code (5 : Nat) (Option.some Jvm.ClassFile.FieldType.int)) ∈ lw_all := lw_g (lw_at lw_m10 47 rfl) rfl
theorem q2309 : (Jvm.Cond.methodLink "LakeLevelsModel" (222 : Nat) ({ cls := "LakeLevelsModel", name := "seaCells", desc := "()I" } : Jvm.MethodName)) ∈ lw_all := lw_g (lw_at lw_m10 48 rfl) rfl
theorem q2310 : (Jvm.Cond.privateMethod ({ cls := "LakeLevelsModel", name := "seaCells", desc := "()I" } : Jvm.MethodName)) ∈ lw_tbl := lw_at lw_m10 49 rfl
theorem q2311 : (Jvm.Cond.instanceMethod ({ cls := "LakeLevelsModel", name := "seaCells", desc := "()I" } : Jvm.MethodName)) ∈ lw_all := lw_g (lw_at lw_m10 50 rfl) rfl
theorem q2312 : (Jvm.Cond.code ({ cls := "LakeLevelsModel", name := "seaCells", desc := "()I" } : Jvm.MethodName) prog_13_method_54_code (3 : Nat) (Option.some Jvm.ClassFile.FieldType.int)) ∈ lw_all := lw_g (lw_at lw_m10 51 rfl) rfl
theorem q2314 : (Jvm.Cond.instanceMethod ({ cls := "LakeLevelsModel", name := "pour", desc := "(II)I" } : Jvm.MethodName)) ∈ lw_all := lw_g (lw_at lw_m10 53 rfl) rfl
theorem q2315 : (Jvm.Cond.selects "LakeLevelsModel" ({ cls := "LakeLevelsModel", name := "pour", desc := "(II)I" } : Jvm.MethodName) ({ cls := "LakeLevelsModel", name := "pour", desc := "(II)I" } : Jvm.MethodName)) ∈ lw_all := lw_g (lw_at lw_m10 54 rfl) rfl
theorem q2316 : (Jvm.Cond.code ({ cls := "LakeLevelsModel", name := "pour", desc := "(II)I" } : Jvm.MethodName) prog_13_method_57_code (5 : Nat) (Option.some Jvm.ClassFile.FieldType.int)) ∈ lw_all := lw_g (lw_at lw_m10 55 rfl) rfl
theorem q2317 : (Jvm.Cond.constantLong "LakeLevelsModel" (228 : Nat) (100000 : Int64)) ∈ lw_all := lw_g (lw_at lw_m10 56 rfl) rfl
theorem q2318 : (Jvm.Cond.methodLink "LakeLevelsModel" (230 : Nat) ({ cls := "LakeLevelsModel", name := "water", desc := "()J" } : Jvm.MethodName)) ∈ lw_all := lw_g (lw_at lw_m10 57 rfl) rfl
theorem q2319 : (Jvm.Cond.privateMethod ({ cls := "LakeLevelsModel", name := "water", desc := "()J" } : Jvm.MethodName)) ∈ lw_tbl := lw_at lw_m10 58 rfl
theorem q2320 : (Jvm.Cond.instanceMethod ({ cls := "LakeLevelsModel", name := "water", desc := "()J" } : Jvm.MethodName)) ∈ lw_all := lw_g (lw_at lw_m10 59 rfl) rfl
theorem q2321 : (Jvm.Cond.code ({ cls := "LakeLevelsModel", name := "water", desc := "()J" } : Jvm.MethodName) prog_13_method_36_code (4 : Nat) (Option.some Jvm.ClassFile.FieldType.long)) ∈ lw_all := lw_g (lw_at lw_m10 60 rfl) rfl
theorem q2322 : (Jvm.Cond.constantLong "LakeLevelsModel" (234 : Nat) (1000000 : Int64)) ∈ lw_all := lw_g (lw_at lw_m10 61 rfl) rfl
theorem q2324 : (Jvm.Cond.instanceMethod ({ cls := "LakeLevelsModel", name := "rain", desc := "(I)I" } : Jvm.MethodName)) ∈ lw_all := lw_g (lw_at lw_m10 63 rfl) rfl
theorem q2325 : (Jvm.Cond.selects "LakeLevelsModel" ({ cls := "LakeLevelsModel", name := "rain", desc := "(I)I" } : Jvm.MethodName) ({ cls := "LakeLevelsModel", name := "rain", desc := "(I)I" } : Jvm.MethodName)) ∈ lw_all := lw_g (lw_at lw_m10 64 rfl) rfl
theorem q2326 : (Jvm.Cond.code ({ cls := "LakeLevelsModel", name := "rain", desc := "(I)I" } : Jvm.MethodName) prog_13_method_58_code (5 : Nat) (Option.some Jvm.ClassFile.FieldType.int)) ∈ lw_all := lw_g (lw_at lw_m10 65 rfl) rfl
theorem q2327 : (Jvm.Cond.constantLong "LakeLevelsModel" (236 : Nat) (1000 : Int64)) ∈ lw_all := lw_g (lw_at lw_m10 66 rfl) rfl
theorem q2329 : (Jvm.Cond.instanceMethod ({ cls := "LakeLevelsModel", name := "evaporate", desc := "(I)I" } : Jvm.MethodName)) ∈ lw_all := lw_g (lw_at lw_m10 68 rfl) rfl
theorem q2330 : (Jvm.Cond.selects "LakeLevelsModel" ({ cls := "LakeLevelsModel", name := "evaporate", desc := "(I)I" } : Jvm.MethodName) ({ cls := "LakeLevelsModel", name := "evaporate", desc := "(I)I" } : Jvm.MethodName)) ∈ lw_all := lw_g (lw_at lw_m10 69 rfl) rfl
theorem q2331 : (Jvm.Cond.code ({ cls := "LakeLevelsModel", name := "evaporate", desc := "(I)I" } : Jvm.MethodName) prog_13_method_60_code (5 : Nat) (Option.some Jvm.ClassFile.FieldType.int)) ∈ lw_all := lw_g (lw_at lw_m10 70 rfl) rfl
theorem q2332 : (Jvm.Cond.constantLong "LakeLevelsModel" (241 : Nat) (100 : Int64)) ∈ lw_all := lw_g (lw_at lw_m10 71 rfl) rfl
theorem q2333 : (Jvm.Cond.methodLink "LakeLevelsModel" (243 : Nat) ({ cls := "LakeLevelsModel", name := "evaporates", desc := "()V" } : Jvm.MethodName)) ∈ lw_all := lw_g (lw_at lw_m10 72 rfl) rfl
theorem q2334 : (Jvm.Cond.privateMethod ({ cls := "LakeLevelsModel", name := "evaporates", desc := "()V" } : Jvm.MethodName)) ∈ lw_tbl := lw_at lw_m10 73 rfl
theorem q2335 : (Jvm.Cond.instanceMethod ({ cls := "LakeLevelsModel", name := "evaporates", desc := "()V" } : Jvm.MethodName)) ∈ lw_all := lw_g (lw_at lw_m10 74 rfl) rfl
theorem q2336 : (Jvm.Cond.code ({ cls := "LakeLevelsModel", name := "evaporates", desc := "()V" } : Jvm.MethodName) prog_13_method_59_code (7 : Nat) (Option.none : Option Jvm.ClassFile.FieldType)) ∈ lw_all := lw_g (lw_at lw_m10 75 rfl) rfl
theorem q2337 : (Jvm.Cond.methodLink "LakeLevelsModel" (238 : Nat) ({ cls := "LakeLevelsModel", name := "takes", desc := "(IJ)V" } : Jvm.MethodName)) ∈ lw_all := lw_g (lw_at lw_m10 76 rfl) rfl
theorem q2338 : (Jvm.Cond.privateMethod ({ cls := "LakeLevelsModel", name := "takes", desc := "(IJ)V" } : Jvm.MethodName)) ∈ lw_tbl := lw_at lw_m10 77 rfl
theorem q2339 : (Jvm.Cond.instanceMethod ({ cls := "LakeLevelsModel", name := "takes", desc := "(IJ)V" } : Jvm.MethodName)) ∈ lw_all := lw_g (lw_at lw_m10 78 rfl) rfl
theorem q2340 : (Jvm.Cond.code ({ cls := "LakeLevelsModel", name := "takes", desc := "(IJ)V" } : Jvm.MethodName) prog_13_method_31_code (17 : Nat) (Option.none : Option Jvm.ClassFile.FieldType)) ∈ lw_all := lw_g (lw_at lw_m10 79 rfl) rfl
theorem q2341 : (Jvm.Cond.methodLink "LakeLevelsModel" (142 : Nat) ({ cls := "LakeLevelsModel", name := "leastVolume", desc := "(I)J" } : Jvm.MethodName)) ∈ lw_all := lw_g (lw_at lw_m10 80 rfl) rfl
theorem q2342 : (Jvm.Cond.privateMethod ({ cls := "LakeLevelsModel", name := "leastVolume", desc := "(I)J" } : Jvm.MethodName)) ∈ lw_tbl := lw_at lw_m10 81 rfl
theorem q2343 : (Jvm.Cond.instanceMethod ({ cls := "LakeLevelsModel", name := "leastVolume", desc := "(I)J" } : Jvm.MethodName)) ∈ lw_all := lw_g (lw_at lw_m10 82 rfl) rfl
theorem q2344 : (Jvm.Cond.code ({ cls := "LakeLevelsModel", name := "leastVolume", desc := "(I)J" } : Jvm.MethodName) prog_13_method_27_code (2 : Nat) (Option.some Jvm.ClassFile.FieldType.long)) ∈ lw_all := lw_g (lw_at lw_m10 83 rfl) rfl
theorem q2345 : (Jvm.Cond.methodLink "LakeLevelsModel" (130 : Nat) ({ cls := "LakeLevelsModel", name := "isJoined", desc := "(I)Z" } : Jvm.MethodName)) ∈ lw_all := lw_g (lw_at lw_m10 84 rfl) rfl
theorem q2346 : (Jvm.Cond.privateMethod ({ cls := "LakeLevelsModel", name := "isJoined", desc := "(I)Z" } : Jvm.MethodName)) ∈ lw_tbl := lw_at lw_m10 85 rfl
theorem q2347 : (Jvm.Cond.instanceMethod ({ cls := "LakeLevelsModel", name := "isJoined", desc := "(I)Z" } : Jvm.MethodName)) ∈ lw_all := lw_g (lw_at lw_m10 86 rfl) rfl
theorem q2348 : (Jvm.Cond.code ({ cls := "LakeLevelsModel", name := "isJoined", desc := "(I)Z" } : Jvm.MethodName) prog_13_method_26_code (2 : Nat) (Option.some Jvm.ClassFile.FieldType.boolean)) ∈ lw_all := lw_g (lw_at lw_m10 87 rfl) rfl
theorem q2349 : (Jvm.Cond.methodLink "LakeLevelsModel" (145 : Nat) ({ cls := "LakeLevelsModel", name := "parts", desc := "(III)V" } : Jvm.MethodName)) ∈ lw_all := lw_g (lw_at lw_m10 88 rfl) rfl
theorem q2350 : (Jvm.Cond.privateMethod ({ cls := "LakeLevelsModel", name := "parts", desc := "(III)V" } : Jvm.MethodName)) ∈ lw_tbl := lw_at lw_m10 89 rfl
theorem q2351 : (Jvm.Cond.instanceMethod ({ cls := "LakeLevelsModel", name := "parts", desc := "(III)V" } : Jvm.MethodName)) ∈ lw_all := lw_g (lw_at lw_m10 90 rfl) rfl
theorem q2352 : (Jvm.Cond.code ({ cls := "LakeLevelsModel", name := "parts", desc := "(III)V" } : Jvm.MethodName) prog_13_method_32_code (4 : Nat) (Option.none : Option Jvm.ClassFile.FieldType)) ∈ lw_all := lw_g (lw_at lw_m10 91 rfl) rfl
theorem q2354 : (Jvm.Cond.instanceMethod ({ cls := "LakeLevelsModel", name := "take", desc := "(II)I" } : Jvm.MethodName)) ∈ lw_all := lw_g (lw_at lw_m10 93 rfl) rfl
theorem q2355 : (Jvm.Cond.selects "LakeLevelsModel" ({ cls := "LakeLevelsModel", name := "take", desc := "(II)I" } : Jvm.MethodName) ({ cls := "LakeLevelsModel", name := "take", desc := "(II)I" } : Jvm.MethodName)) ∈ lw_all := lw_g (lw_at lw_m10 94 rfl) rfl
theorem q2356 : (Jvm.Cond.code ({ cls := "LakeLevelsModel", name := "take", desc := "(II)I" } : Jvm.MethodName) prog_13_method_61_code (4 : Nat) (Option.some Jvm.ClassFile.FieldType.int)) ∈ lw_all := lw_g (lw_at lw_m10 95 rfl) rfl
theorem q2357 : (Jvm.Cond.methodLink "LakeLevelsModel" (246 : Nat) ({ cls := "LakeLevelsModel", name := "isLake", desc := "(I)Z" } : Jvm.MethodName)) ∈ lw_all := lw_g (lw_at lw_m10 96 rfl) rfl
theorem q2358 : (Jvm.Cond.privateMethod ({ cls := "LakeLevelsModel", name := "isLake", desc := "(I)Z" } : Jvm.MethodName)) ∈ lw_tbl := lw_at lw_m10 97 rfl
theorem q2359 : (Jvm.Cond.instanceMethod ({ cls := "LakeLevelsModel", name := "isLake", desc := "(I)Z" } : Jvm.MethodName)) ∈ lw_all := lw_g (lw_at lw_m10 98 rfl) rfl
theorem q2360 : (Jvm.Cond.code ({ cls := "LakeLevelsModel", name := "isLake", desc := "(I)Z" } : Jvm.MethodName) prog_13_method_35_code (2 : Nat) (Option.some Jvm.ClassFile.FieldType.boolean)) ∈ lw_all := lw_g (lw_at lw_m10 99 rfl) rfl
theorem q2362 : (Jvm.Cond.instanceMethod ({ cls := "LakeLevelsModel", name := "balance", desc := "(I)J" } : Jvm.MethodName)) ∈ lw_all := lw_g (lw_at lw_m10 101 rfl) rfl
theorem q2363 : (Jvm.Cond.selects "LakeLevelsModel" ({ cls := "LakeLevelsModel", name := "balance", desc := "(I)J" } : Jvm.MethodName) ({ cls := "LakeLevelsModel", name := "balance", desc := "(I)J" } : Jvm.MethodName)) ∈ lw_all := lw_g (lw_at lw_m10 102 rfl) rfl
theorem q2364 : (Jvm.Cond.code ({ cls := "LakeLevelsModel", name := "balance", desc := "(I)J" } : Jvm.MethodName) prog_13_method_63_code (2 : Nat) (Option.some Jvm.ClassFile.FieldType.long)) ∈ lw_all := lw_g (lw_at lw_m10 103 rfl) rfl
theorem q2365 : (Jvm.Cond.constantLong "LakeLevelsModel" (249 : Nat) (3 : Int64)) ∈ lw_all := lw_g (lw_at lw_m10 104 rfl) rfl
theorem q2366 : (Jvm.Cond.methodLink "LakeLevelsModel" (251 : Nat) ({ cls := "LakeLevelsModel", name := "balanceOf", desc := "(I)J" } : Jvm.MethodName)) ∈ lw_all := lw_g (lw_at lw_m10 105 rfl) rfl
theorem q2367 : (Jvm.Cond.privateMethod ({ cls := "LakeLevelsModel", name := "balanceOf", desc := "(I)J" } : Jvm.MethodName)) ∈ lw_tbl := lw_at lw_m10 106 rfl
theorem q2368 : (Jvm.Cond.instanceMethod ({ cls := "LakeLevelsModel", name := "balanceOf", desc := "(I)J" } : Jvm.MethodName)) ∈ lw_all := lw_g (lw_at lw_m10 107 rfl) rfl
theorem q2369 : (Jvm.Cond.code ({ cls := "LakeLevelsModel", name := "balanceOf", desc := "(I)J" } : Jvm.MethodName) prog_13_method_62_code (2 : Nat) (Option.some Jvm.ClassFile.FieldType.long)) ∈ lw_all := lw_g (lw_at lw_m10 108 rfl) rfl
theorem q2371 : (Jvm.Cond.instanceMethod ({ cls := "LakeLevelsModel", name := "lake", desc := "(II)I" } : Jvm.MethodName)) ∈ lw_all := lw_g (lw_at lw_m10 110 rfl) rfl
theorem q2372 : (Jvm.Cond.selects "LakeLevelsModel" ({ cls := "LakeLevelsModel", name := "lake", desc := "(II)I" } : Jvm.MethodName) ({ cls := "LakeLevelsModel", name := "lake", desc := "(II)I" } : Jvm.MethodName)) ∈ lw_all := lw_g (lw_at lw_m10 111 rfl) rfl
theorem q2373 : (Jvm.Cond.code ({ cls := "LakeLevelsModel", name := "lake", desc := "(II)I" } : Jvm.MethodName) prog_13_method_66_code (3 : Nat) (Option.some Jvm.ClassFile.FieldType.int)) ∈ lw_all := lw_g (lw_at lw_m10 112 rfl) rfl
theorem q2374 : (Jvm.Cond.constantLong "LakeLevelsModel" (260 : Nat) (9 : Int64)) ∈ lw_all := lw_g (lw_at lw_m10 113 rfl) rfl
theorem q2375 : (Jvm.Cond.methodLink "LakeLevelsModel" (262 : Nat) ({ cls := "LakeLevelsModel", name := "lakeValue", desc := "(II)I" } : Jvm.MethodName)) ∈ lw_all := lw_g (lw_at lw_m10 114 rfl) rfl
theorem q2376 : (Jvm.Cond.privateMethod ({ cls := "LakeLevelsModel", name := "lakeValue", desc := "(II)I" } : Jvm.MethodName)) ∈ lw_tbl := lw_at lw_m10 115 rfl
theorem q2377 : (Jvm.Cond.instanceMethod ({ cls := "LakeLevelsModel", name := "lakeValue", desc := "(II)I" } : Jvm.MethodName)) ∈ lw_all := lw_g (lw_at lw_m10 116 rfl) rfl
theorem q2378 : (Jvm.Cond.code ({ cls := "LakeLevelsModel", name := "lakeValue", desc := "(II)I" } : Jvm.MethodName) prog_13_method_65_code (6 : Nat) (Option.some Jvm.ClassFile.FieldType.int)) ∈ lw_all := lw_g (lw_at lw_m10 117 rfl) rfl
theorem q2379 : (Jvm.Cond.methodLink "LakeLevelsModel" (254 : Nat) ({ cls := "LakeLevelsModel", name := "bits", desc := "(J)I" } : Jvm.MethodName)) ∈ lw_all := lw_g (lw_at lw_m10 118 rfl) rfl
theorem q2380 : (Jvm.Cond.static ({ cls := "LakeLevelsModel", name := "bits", desc := "(J)I" } : Jvm.MethodName)) ∈ lw_all := lw_g (lw_at lw_m10 119 rfl) rfl
theorem q2381 : (Jvm.Cond.code ({ cls := "LakeLevelsModel", name := "bits", desc := "(J)I" } : Jvm.MethodName) prog_13_method_42_code (5 : Nat) (Option.some Jvm.ClassFile.FieldType.int)) ∈ lw_all := lw_g (lw_at lw_m10 120 rfl) rfl
theorem q2382 : (Jvm.Cond.methodLink "LakeLevelsModel" (257 : Nat) ({ cls := "LakeLevelsModel", name := "basinsOf", desc := "(J)I" } : Jvm.MethodName)) ∈ lw_all := lw_g (lw_at lw_m10 121 rfl) rfl
theorem q2383 : (Jvm.Cond.privateMethod ({ cls := "LakeLevelsModel", name := "basinsOf", desc := "(J)I" } : Jvm.MethodName)) ∈ lw_tbl := lw_at lw_m10 122 rfl
theorem q2384 : (Jvm.Cond.instanceMethod ({ cls := "LakeLevelsModel", name := "basinsOf", desc := "(J)I" } : Jvm.MethodName)) ∈ lw_all := lw_g (lw_at lw_m10 123 rfl) rfl
theorem q2385 : (Jvm.Cond.code ({ cls := "LakeLevelsModel", name := "basinsOf", desc := "(J)I" } : Jvm.MethodName) prog_13_method_64_code (7 : Nat) (Option.some Jvm.ClassFile.FieldType.int)) ∈ lw_all := lw_g (lw_at lw_m10 124 rfl) rfl
theorem q2387 : (Jvm.Cond.instanceMethod ({ cls := "LakeLevelsModel", name := "lakeCells", desc := "(I)J" } : Jvm.MethodName)) ∈ lw_all := lw_g (lw_at lw_m10 126 rfl) rfl
theorem q2388 : (Jvm.Cond.selects "LakeLevelsModel" ({ cls := "LakeLevelsModel", name := "lakeCells", desc := "(I)J" } : Jvm.MethodName) ({ cls := "LakeLevelsModel", name := "lakeCells", desc := "(I)J" } : Jvm.MethodName)) ∈ lw_all := lw_g (lw_at lw_m10 127 rfl) rfl
theorem q2389 : (Jvm.Cond.code ({ cls := "LakeLevelsModel", name := "lakeCells", desc := "(I)J" } : Jvm.MethodName) prog_13_method_67_code (2 : Nat) (Option.some Jvm.ClassFile.FieldType.long)) ∈ lw_all := lw_g (lw_at lw_m10 128 rfl) rfl
theorem q2391 : (Jvm.Cond.instanceMethod ({ cls := "LakeLevelsModel", name := "level", desc := "(II)I" } : Jvm.MethodName)) ∈ lw_all := lw_g (lw_at lw_m10 130 rfl) rfl
theorem q2392 : (Jvm.Cond.selects "LakeLevelsModel" ({ cls := "LakeLevelsModel", name := "level", desc := "(II)I" } : Jvm.MethodName) ({ cls := "LakeLevelsModel", name := "level", desc := "(II)I" } : Jvm.MethodName)) ∈ lw_all := lw_g (lw_at lw_m10 131 rfl) rfl
theorem q2393 : (Jvm.Cond.code ({ cls := "LakeLevelsModel", name := "level", desc := "(II)I" } : Jvm.MethodName) prog_13_method_69_code (3 : Nat) (Option.some Jvm.ClassFile.FieldType.int)) ∈ lw_all := lw_g (lw_at lw_m10 132 rfl) rfl
theorem q2394 : (Jvm.Cond.methodLink "LakeLevelsModel" (269 : Nat) ({ cls := "LakeLevelsModel", name := "levelPart", desc := "(II)I" } : Jvm.MethodName)) ∈ lw_all := lw_g (lw_at lw_m10 133 rfl) rfl
theorem q2395 : (Jvm.Cond.privateMethod ({ cls := "LakeLevelsModel", name := "levelPart", desc := "(II)I" } : Jvm.MethodName)) ∈ lw_tbl := lw_at lw_m10 134 rfl
theorem q2396 : (Jvm.Cond.instanceMethod ({ cls := "LakeLevelsModel", name := "levelPart", desc := "(II)I" } : Jvm.MethodName)) ∈ lw_all := lw_g (lw_at lw_m10 135 rfl) rfl
theorem q2397 : (Jvm.Cond.code ({ cls := "LakeLevelsModel", name := "levelPart", desc := "(II)I" } : Jvm.MethodName) prog_13_method_68_code (5 : Nat) (Option.some Jvm.ClassFile.FieldType.int)) ∈ lw_all := lw_g (lw_at lw_m10 136 rfl) rfl
theorem q2398 : (Jvm.Cond.methodLink "LakeLevelsModel" (265 : Nat) ({ cls := "LakeLevelsModel", name := "divisor", desc := "(JJ)J" } : Jvm.MethodName)) ∈ lw_all := lw_g (lw_at lw_m10 137 rfl) rfl
theorem q2399 : (Jvm.Cond.static ({ cls := "LakeLevelsModel", name := "divisor", desc := "(JJ)J" } : Jvm.MethodName)) ∈ lw_all := lw_g (lw_at lw_m10 138 rfl) rfl
theorem q2400 : (Jvm.Cond.code ({ cls := "LakeLevelsModel", name := "divisor", desc := "(JJ)J" } : Jvm.MethodName) prog_13_method_41_code (10 : Nat) (Option.some Jvm.ClassFile.FieldType.long)) ∈ lw_all := lw_g (lw_at lw_m10 139 rfl) rfl
theorem q2402 : (Jvm.Cond.instanceMethod ({ cls := "LakeLevelsModel", name := "depth", desc := "(I)D" } : Jvm.MethodName)) ∈ lw_all := lw_g (lw_at lw_m10 141 rfl) rfl
theorem q2403 : (Jvm.Cond.selects "LakeLevelsModel" ({ cls := "LakeLevelsModel", name := "depth", desc := "(I)D" } : Jvm.MethodName) ({ cls := "LakeLevelsModel", name := "depth", desc := "(I)D" } : Jvm.MethodName)) ∈ lw_all := lw_g (lw_at lw_m10 142 rfl) rfl
theorem q2404 : (Jvm.Cond.code ({ cls := "LakeLevelsModel", name := "depth", desc := "(I)D" } : Jvm.MethodName) prog_13_method_70_code (6 : Nat) (Option.some Jvm.ClassFile.FieldType.double)) ∈ lw_all := lw_g (lw_at lw_m10 143 rfl) rfl
theorem q2406 : (Jvm.Cond.instanceMethod ({ cls := "LakeLevelsModel", name := "deepest", desc := "()I" } : Jvm.MethodName)) ∈ lw_all := lw_g (lw_at lw_m10 145 rfl) rfl
theorem q2407 : (Jvm.Cond.selects "LakeLevelsModel" ({ cls := "LakeLevelsModel", name := "deepest", desc := "()I" } : Jvm.MethodName) ({ cls := "LakeLevelsModel", name := "deepest", desc := "()I" } : Jvm.MethodName)) ∈ lw_all := lw_g (lw_at lw_m10 146 rfl) rfl
theorem q2408 : (Jvm.Cond.code ({ cls := "LakeLevelsModel", name := "deepest", desc := "()I" } : Jvm.MethodName) prog_13_method_71_code (9 : Nat) (Option.some Jvm.ClassFile.FieldType.int)) ∈ lw_all := lw_g (lw_at lw_m10 147 rfl) rfl
theorem q2410 : (Jvm.Cond.instanceMethod ({ cls := "LakeLevelsModel", name := "course", desc := "(I)J" } : Jvm.MethodName)) ∈ lw_all := lw_g (lw_at lw_m10 149 rfl) rfl
theorem q2411 : (Jvm.Cond.selects "LakeLevelsModel" ({ cls := "LakeLevelsModel", name := "course", desc := "(I)J" } : Jvm.MethodName) ({ cls := "LakeLevelsModel", name := "course", desc := "(I)J" } : Jvm.MethodName)) ∈ lw_all := lw_g (lw_at lw_m10 150 rfl) rfl
theorem q2412 : (Jvm.Cond.code ({ cls := "LakeLevelsModel", name := "course", desc := "(I)J" } : Jvm.MethodName) prog_13_method_72_code (7 : Nat) (Option.some Jvm.ClassFile.FieldType.long)) ∈ lw_all := lw_g (lw_at lw_m10 151 rfl) rfl
theorem q2414 : (Jvm.Cond.instanceMethod ({ cls := "LakeLevelsModel", name := "amountFor", desc := "(II)I" } : Jvm.MethodName)) ∈ lw_all := lw_g (lw_at lw_m10 153 rfl) rfl
theorem q2415 : (Jvm.Cond.selects "LakeLevelsModel" ({ cls := "LakeLevelsModel", name := "amountFor", desc := "(II)I" } : Jvm.MethodName) ({ cls := "LakeLevelsModel", name := "amountFor", desc := "(II)I" } : Jvm.MethodName)) ∈ lw_all := lw_g (lw_at lw_m10 154 rfl) rfl
theorem q2416 : (Jvm.Cond.code ({ cls := "LakeLevelsModel", name := "amountFor", desc := "(II)I" } : Jvm.MethodName) prog_13_method_74_code (7 : Nat) (Option.some Jvm.ClassFile.FieldType.int)) ∈ lw_all := lw_g (lw_at lw_m10 155 rfl) rfl
theorem q2417 : (Jvm.Cond.constant "LakeLevelsModel" (278 : Nat) (100000 : Int32)) ∈ lw_all := lw_g (lw_at lw_m10 156 rfl) rfl
theorem q2418 : (Jvm.Cond.methodLink "LakeLevelsModel" (279 : Nat) ({ cls := "LakeLevelsModel", name := "wets", desc := "(III)Z" } : Jvm.MethodName)) ∈ lw_all := lw_g (lw_at lw_m10 157 rfl) rfl
theorem q2419 : (Jvm.Cond.privateMethod ({ cls := "LakeLevelsModel", name := "wets", desc := "(III)Z" } : Jvm.MethodName)) ∈ lw_tbl := lw_at lw_m10 158 rfl
theorem q2420 : (Jvm.Cond.instanceMethod ({ cls := "LakeLevelsModel", name := "wets", desc := "(III)Z" } : Jvm.MethodName)) ∈ lw_all := lw_g (lw_at lw_m10 159 rfl) rfl
theorem q2421 : (Jvm.Cond.code ({ cls := "LakeLevelsModel", name := "wets", desc := "(III)Z" } : Jvm.MethodName) prog_13_method_73_code (5 : Nat) (Option.some Jvm.ClassFile.FieldType.boolean)) ∈ lw_all := lw_g (lw_at lw_m10 160 rfl) rfl
theorem q2422 : (Jvm.Cond.methodLink "LakeLevelsModel" (272 : Nat) ({ cls := "LakeLevelsModel", name := "lays", desc := "()V" } : Jvm.MethodName)) ∈ lw_all := lw_g (lw_at lw_m10 161 rfl) rfl
theorem q2423 : (Jvm.Cond.privateMethod ({ cls := "LakeLevelsModel", name := "lays", desc := "()V" } : Jvm.MethodName)) ∈ lw_tbl := lw_at lw_m10 162 rfl
theorem q2424 : (Jvm.Cond.instanceMethod ({ cls := "LakeLevelsModel", name := "lays", desc := "()V" } : Jvm.MethodName)) ∈ lw_all := lw_g (lw_at lw_m10 163 rfl) rfl
theorem q2425 : (Jvm.Cond.code ({ cls := "LakeLevelsModel", name := "lays", desc := "()V" } : Jvm.MethodName) prog_13_method_6_code (2 : Nat) (Option.none : Option Jvm.ClassFile.FieldType)) ∈ lw_all := lw_g (lw_at lw_m10 164 rfl) rfl
theorem q2426 : (Jvm.Cond.methodLink "LakeLevelsModel" (275 : Nat) ({ cls := "LakeLevelsModel", name := "takesBack", desc := "()V" } : Jvm.MethodName)) ∈ lw_all := lw_g (lw_at lw_m10 165 rfl) rfl
theorem q2427 : (Jvm.Cond.privateMethod ({ cls := "LakeLevelsModel", name := "takesBack", desc := "()V" } : Jvm.MethodName)) ∈ lw_tbl := lw_at lw_m10 166 rfl
theorem q2428 : (Jvm.Cond.instanceMethod ({ cls := "LakeLevelsModel", name := "takesBack", desc := "()V" } : Jvm.MethodName)) ∈ lw_all := lw_g (lw_at lw_m10 167 rfl) rfl
theorem q2429 : (Jvm.Cond.code ({ cls := "LakeLevelsModel", name := "takesBack", desc := "()V" } : Jvm.MethodName) prog_13_method_7_code (2 : Nat) (Option.none : Option Jvm.ClassFile.FieldType)) ∈ lw_all := lw_g (lw_at lw_m10 168 rfl) rfl
theorem q2431 : (Jvm.Cond.instanceMethod ({ cls := "LakeLevelsModel", name := "rainToJoin", desc := "()I" } : Jvm.MethodName)) ∈ lw_all := lw_g (lw_at lw_m10 170 rfl) rfl
theorem q2432 : (Jvm.Cond.selects "LakeLevelsModel" ({ cls := "LakeLevelsModel", name := "rainToJoin", desc := "()I" } : Jvm.MethodName) ({ cls := "LakeLevelsModel", name := "rainToJoin", desc := "()I" } : Jvm.MethodName)) ∈ lw_all := lw_g (lw_at lw_m10 171 rfl) rfl
theorem q2433 : (Jvm.Cond.code ({ cls := "LakeLevelsModel", name := "rainToJoin", desc := "()I" } : Jvm.MethodName) prog_13_method_76_code (3 : Nat) (Option.some Jvm.ClassFile.FieldType.int)) ∈ lw_all := lw_g (lw_at lw_m10 172 rfl) rfl
theorem q2434 : (Jvm.Cond.methodLink "LakeLevelsModel" (283 : Nat) ({ cls := "LakeLevelsModel", name := "lakesAfter", desc := "(I)I" } : Jvm.MethodName)) ∈ lw_all := lw_g (lw_at lw_m10 173 rfl) rfl
theorem q2435 : (Jvm.Cond.privateMethod ({ cls := "LakeLevelsModel", name := "lakesAfter", desc := "(I)I" } : Jvm.MethodName)) ∈ lw_tbl := lw_at lw_m10 174 rfl
theorem q2436 : (Jvm.Cond.instanceMethod ({ cls := "LakeLevelsModel", name := "lakesAfter", desc := "(I)I" } : Jvm.MethodName)) ∈ lw_all := lw_g (lw_at lw_m10 175 rfl) rfl
theorem q2437 : (Jvm.Cond.code ({ cls := "LakeLevelsModel", name := "lakesAfter", desc := "(I)I" } : Jvm.MethodName) prog_13_method_75_code (3 : Nat) (Option.some Jvm.ClassFile.FieldType.int)) ∈ lw_all := lw_g (lw_at lw_m10 176 rfl) rfl
theorem q2439 : (Jvm.Cond.instanceMethod ({ cls := "LakeLevelsModel", name := "withoutGate", desc := "(II)I" } : Jvm.MethodName)) ∈ lw_all := lw_g (lw_at lw_m10 178 rfl) rfl
theorem q2440 : (Jvm.Cond.selects "LakeLevelsModel" ({ cls := "LakeLevelsModel", name := "withoutGate", desc := "(II)I" } : Jvm.MethodName) ({ cls := "LakeLevelsModel", name := "withoutGate", desc := "(II)I" } : Jvm.MethodName)) ∈ lw_all := lw_g (lw_at lw_m10 179 rfl) rfl
theorem q2441 : (Jvm.Cond.code ({ cls := "LakeLevelsModel", name := "withoutGate", desc := "(II)I" } : Jvm.MethodName) prog_13_method_77_code (5 : Nat) (Option.some Jvm.ClassFile.FieldType.int)) ∈ lw_all := lw_g (lw_at lw_m10 180 rfl) rfl
theorem q2443 : (Jvm.Cond.instanceMethod ({ cls := "LakeLevelsModel", name := "append", desc := "(I)I" } : Jvm.MethodName)) ∈ lw_all := lw_g (lw_at lw_m10 182 rfl) rfl
theorem q2444 : (Jvm.Cond.selects "LakeLevelsModel" ({ cls := "LakeLevelsModel", name := "append", desc := "(I)I" } : Jvm.MethodName) ({ cls := "LakeLevelsModel", name := "append", desc := "(I)I" } : Jvm.MethodName)) ∈ lw_all := lw_g (lw_at lw_m10 183 rfl) rfl
theorem q2445 : (Jvm.Cond.code ({ cls := "LakeLevelsModel", name := "append", desc := "(I)I" } : Jvm.MethodName) prog_13_method_78_code (2 : Nat) (Option.some Jvm.ClassFile.FieldType.int)) ∈ lw_all := lw_g (lw_at lw_m10 184 rfl) rfl
theorem q2446 : (Jvm.Cond.constantLong "LakeLevelsModel" (286 : Nat) (127 : Int64)) ∈ lw_all := lw_g (lw_at lw_m10 185 rfl) rfl
theorem q2448 : (Jvm.Cond.instanceMethod ({ cls := "LakeLevelsModel", name := "clearText", desc := "()I" } : Jvm.MethodName)) ∈ lw_all := lw_g (lw_at lw_m10 187 rfl) rfl
theorem q2449 : (Jvm.Cond.selects "LakeLevelsModel" ({ cls := "LakeLevelsModel", name := "clearText", desc := "()I" } : Jvm.MethodName) ({ cls := "LakeLevelsModel", name := "clearText", desc := "()I" } : Jvm.MethodName)) ∈ lw_all := lw_g (lw_at lw_m10 188 rfl) rfl
theorem q2450 : (Jvm.Cond.code ({ cls := "LakeLevelsModel", name := "clearText", desc := "()I" } : Jvm.MethodName) prog_13_method_79_code (2 : Nat) (Option.some Jvm.ClassFile.FieldType.int)) ∈ lw_all := lw_g (lw_at lw_m10 189 rfl) rfl
theorem q2452 : (Jvm.Cond.instanceMethod ({ cls := "LakeLevelsModel", name := "parse", desc := "()I" } : Jvm.MethodName)) ∈ lw_all := lw_g (lw_at lw_m10 191 rfl) rfl
theorem q2453 : (Jvm.Cond.selects "LakeLevelsModel" ({ cls := "LakeLevelsModel", name := "parse", desc := "()I" } : Jvm.MethodName) ({ cls := "LakeLevelsModel", name := "parse", desc := "()I" } : Jvm.MethodName)) ∈ lw_all := lw_g (lw_at lw_m10 192 rfl) rfl
theorem q2454 : (Jvm.Cond.code ({ cls := "LakeLevelsModel", name := "parse", desc := "()I" } : Jvm.MethodName) prog_13_method_89_code (5 : Nat) (Option.some Jvm.ClassFile.FieldType.int)) ∈ lw_all := lw_g (lw_at lw_m10 193 rfl) rfl
theorem q2455 : (Jvm.Cond.methodLink "LakeLevelsModel" (330 : Nat) ({ cls := "LakeLevelsModel", name := "reads", desc := "()Z" } : Jvm.MethodName)) ∈ lw_all := lw_g (lw_at lw_m10 194 rfl) rfl
theorem q2456 : (Jvm.Cond.privateMethod ({ cls := "LakeLevelsModel", name := "reads", desc := "()Z" } : Jvm.MethodName)) ∈ lw_tbl := lw_at lw_m10 195 rfl
theorem q2457 : (Jvm.Cond.instanceMethod ({ cls := "LakeLevelsModel", name := "reads", desc := "()Z" } : Jvm.MethodName)) ∈ lw_all := lw_g (lw_at lw_m10 196 rfl) rfl
theorem q2458 : (Jvm.Cond.code ({ cls := "LakeLevelsModel", name := "reads", desc := "()Z" } : Jvm.MethodName) prog_13_method_88_code (3 : Nat) (Option.some Jvm.ClassFile.FieldType.boolean)) ∈ lw_all := lw_g (lw_at lw_m10 197 rfl) rfl
theorem q2459 : (Jvm.Cond.methodLink "LakeLevelsModel" (318 : Nat) ({ cls := "LakeLevelsModel", name := "readsSize", desc := "()Z" } : Jvm.MethodName)) ∈ lw_all := lw_g (lw_at lw_m10 198 rfl) rfl
theorem q2460 : (Jvm.Cond.privateMethod ({ cls := "LakeLevelsModel", name := "readsSize", desc := "()Z" } : Jvm.MethodName)) ∈ lw_tbl := lw_at lw_m10 199 rfl
theorem q2461 : (Jvm.Cond.instanceMethod ({ cls := "LakeLevelsModel", name := "readsSize", desc := "()Z" } : Jvm.MethodName)) ∈ lw_all := lw_g (lw_at lw_m10 200 rfl) rfl
theorem q2462 : (Jvm.Cond.code ({ cls := "LakeLevelsModel", name := "readsSize", desc := "()Z" } : Jvm.MethodName) prog_13_method_82_code (2 : Nat) (Option.some Jvm.ClassFile.FieldType.boolean)) ∈ lw_all := lw_g (lw_at lw_m10 201 rfl) rfl
theorem q2463 : (Jvm.Cond.constantLong "LakeLevelsModel" (298 : Nat) (49 : Int64)) ∈ lw_all := lw_g (lw_at lw_m10 202 rfl) rfl
theorem q2464 : (Jvm.Cond.constantLong "LakeLevelsModel" (300 : Nat) (54 : Int64)) ∈ lw_all := lw_g (lw_at lw_m10 203 rfl) rfl
theorem q2465 : (Jvm.Cond.methodLink "LakeLevelsModel" (315 : Nat) ({ cls := "LakeLevelsModel", name := "passes", desc := "(I)Z" } : Jvm.MethodName)) ∈ lw_all := lw_g (lw_at lw_m10 204 rfl) rfl
theorem q2466 : (Jvm.Cond.privateMethod ({ cls := "LakeLevelsModel", name := "passes", desc := "(I)Z" } : Jvm.MethodName)) ∈ lw_tbl := lw_at lw_m10 205 rfl
theorem q2467 : (Jvm.Cond.instanceMethod ({ cls := "LakeLevelsModel", name := "passes", desc := "(I)Z" } : Jvm.MethodName)) ∈ lw_all := lw_g (lw_at lw_m10 206 rfl) rfl
theorem q2468 : (Jvm.Cond.code ({ cls := "LakeLevelsModel", name := "passes", desc := "(I)Z" } : Jvm.MethodName) prog_13_method_81_code (3 : Nat) (Option.some Jvm.ClassFile.FieldType.boolean)) ∈ lw_all := lw_g (lw_at lw_m10 207 rfl) rfl
theorem q2469 : (Jvm.Cond.methodLink "LakeLevelsModel" (321 : Nat) ({ cls := "LakeLevelsModel", name := "readsHeights", desc := "()Z" } : Jvm.MethodName)) ∈ lw_all := lw_g (lw_at lw_m10 208 rfl) rfl
theorem q2470 : (Jvm.Cond.privateMethod ({ cls := "LakeLevelsModel", name := "readsHeights", desc := "()Z" } : Jvm.MethodName)) ∈ lw_tbl := lw_at lw_m10 209 rfl
theorem q2471 : (Jvm.Cond.instanceMethod ({ cls := "LakeLevelsModel", name := "readsHeights", desc := "()Z" } : Jvm.MethodName)) ∈ lw_all := lw_g (lw_at lw_m10 210 rfl) rfl
theorem q2472 : (Jvm.Cond.code ({ cls := "LakeLevelsModel", name := "readsHeights", desc := "()Z" } : Jvm.MethodName) prog_13_method_87_code (2 : Nat) (Option.some Jvm.ClassFile.FieldType.boolean)) ∈ lw_all := lw_g (lw_at lw_m10 211 rfl) rfl
theorem q2473 : (Jvm.Cond.methodLink "LakeLevelsModel" (309 : Nat) ({ cls := "LakeLevelsModel", name := "readsNumber", desc := "()Z" } : Jvm.MethodName)) ∈ lw_all := lw_g (lw_at lw_m10 212 rfl) rfl
theorem q2474 : (Jvm.Cond.privateMethod ({ cls := "LakeLevelsModel", name := "readsNumber", desc := "()Z" } : Jvm.MethodName)) ∈ lw_tbl := lw_at lw_m10 213 rfl
theorem q2475 : (Jvm.Cond.instanceMethod ({ cls := "LakeLevelsModel", name := "readsNumber", desc := "()Z" } : Jvm.MethodName)) ∈ lw_all := lw_g (lw_at lw_m10 214 rfl) rfl
theorem q2476 : (Jvm.Cond.code ({ cls := "LakeLevelsModel", name := "readsNumber", desc := "()Z" } : Jvm.MethodName) prog_13_method_83_code (2 : Nat) (Option.some Jvm.ClassFile.FieldType.boolean)) ∈ lw_all := lw_g (lw_at lw_m10 215 rfl) rfl
theorem q2477 : (Jvm.Cond.methodLink "LakeLevelsModel" (305 : Nat) ({ cls := "LakeLevelsModel", name := "isFigure", desc := "()Z" } : Jvm.MethodName)) ∈ lw_all := lw_g (lw_at lw_m10 216 rfl) rfl
theorem q2478 : (Jvm.Cond.privateMethod ({ cls := "LakeLevelsModel", name := "isFigure", desc := "()Z" } : Jvm.MethodName)) ∈ lw_tbl := lw_at lw_m10 217 rfl
theorem q2479 : (Jvm.Cond.instanceMethod ({ cls := "LakeLevelsModel", name := "isFigure", desc := "()Z" } : Jvm.MethodName)) ∈ lw_all := lw_g (lw_at lw_m10 218 rfl) rfl
theorem q2480 : (Jvm.Cond.code ({ cls := "LakeLevelsModel", name := "isFigure", desc := "()Z" } : Jvm.MethodName) prog_13_method_80_code (1 : Nat) (Option.some Jvm.ClassFile.FieldType.boolean)) ∈ lw_all := lw_g (lw_at lw_m10 219 rfl) rfl
theorem q2481 : (Jvm.Cond.constantLong "LakeLevelsModel" (294 : Nat) (48 : Int64)) ∈ lw_all := lw_g (lw_at lw_m10 220 rfl) rfl
theorem q2482 : (Jvm.Cond.constantLong "LakeLevelsModel" (296 : Nat) (57 : Int64)) ∈ lw_all := lw_g (lw_at lw_m10 221 rfl) rfl
theorem q2483 : (Jvm.Cond.methodLink "LakeLevelsModel" (324 : Nat) ({ cls := "LakeLevelsModel", name := "readsDrain", desc := "()Z" } : Jvm.MethodName)) ∈ lw_all := lw_g (lw_at lw_m10 222 rfl) rfl
theorem q2484 : (Jvm.Cond.privateMethod ({ cls := "LakeLevelsModel", name := "readsDrain", desc := "()Z" } : Jvm.MethodName)) ∈ lw_tbl := lw_at lw_m10 223 rfl
theorem q2485 : (Jvm.Cond.instanceMethod ({ cls := "LakeLevelsModel", name := "readsDrain", desc := "()Z" } : Jvm.MethodName)) ∈ lw_all := lw_g (lw_at lw_m10 224 rfl) rfl
theorem q2486 : (Jvm.Cond.code ({ cls := "LakeLevelsModel", name := "readsDrain", desc := "()Z" } : Jvm.MethodName) prog_13_method_86_code (2 : Nat) (Option.some Jvm.ClassFile.FieldType.boolean)) ∈ lw_all := lw_g (lw_at lw_m10 225 rfl) rfl
theorem q2487 : (Jvm.Cond.methodLink "LakeLevelsModel" (312 : Nat) ({ cls := "LakeLevelsModel", name := "readsCell", desc := "(I)Z" } : Jvm.MethodName)) ∈ lw_all := lw_g (lw_at lw_m10 226 rfl) rfl
theorem q2488 : (Jvm.Cond.privateMethod ({ cls := "LakeLevelsModel", name := "readsCell", desc := "(I)Z" } : Jvm.MethodName)) ∈ lw_tbl := lw_at lw_m10 227 rfl
theorem q2489 : (Jvm.Cond.instanceMethod ({ cls := "LakeLevelsModel", name := "readsCell", desc := "(I)Z" } : Jvm.MethodName)) ∈ lw_all := lw_g (lw_at lw_m10 228 rfl) rfl
theorem q2490 : (Jvm.Cond.code ({ cls := "LakeLevelsModel", name := "readsCell", desc := "(I)Z" } : Jvm.MethodName) prog_13_method_84_code (4 : Nat) (Option.some Jvm.ClassFile.FieldType.boolean)) ∈ lw_all := lw_g (lw_at lw_m10 229 rfl) rfl
theorem q2491 : (Jvm.Cond.methodLink "LakeLevelsModel" (327 : Nat) ({ cls := "LakeLevelsModel", name := "readsGate", desc := "()Z" } : Jvm.MethodName)) ∈ lw_all := lw_g (lw_at lw_m10 230 rfl) rfl
theorem q2492 : (Jvm.Cond.privateMethod ({ cls := "LakeLevelsModel", name := "readsGate", desc := "()Z" } : Jvm.MethodName)) ∈ lw_tbl := lw_at lw_m10 231 rfl
theorem q2493 : (Jvm.Cond.instanceMethod ({ cls := "LakeLevelsModel", name := "readsGate", desc := "()Z" } : Jvm.MethodName)) ∈ lw_all := lw_g (lw_at lw_m10 232 rfl) rfl
theorem q2494 : (Jvm.Cond.code ({ cls := "LakeLevelsModel", name := "readsGate", desc := "()Z" } : Jvm.MethodName) prog_13_method_85_code (3 : Nat) (Option.some Jvm.ClassFile.FieldType.boolean)) ∈ lw_all := lw_g (lw_at lw_m10 233 rfl) rfl
theorem q2496 : (Jvm.Cond.instanceMethod ({ cls := "LakeLevelsModel", name := "undo", desc := "()I" } : Jvm.MethodName)) ∈ lw_all := lw_g (lw_at lw_m10 235 rfl) rfl
theorem q2497 : (Jvm.Cond.selects "LakeLevelsModel" ({ cls := "LakeLevelsModel", name := "undo", desc := "()I" } : Jvm.MethodName) ({ cls := "LakeLevelsModel", name := "undo", desc := "()I" } : Jvm.MethodName)) ∈ lw_all := lw_g (lw_at lw_m10 236 rfl) rfl
theorem q2498 : (Jvm.Cond.code ({ cls := "LakeLevelsModel", name := "undo", desc := "()I" } : Jvm.MethodName) prog_13_method_90_code (2 : Nat) (Option.some Jvm.ClassFile.FieldType.int)) ∈ lw_all := lw_g (lw_at lw_m10 237 rfl) rfl
theorem q2500 : (Jvm.Cond.instanceMethod ({ cls := "LakeLevelsModel", name := "digest", desc := "()J" } : Jvm.MethodName)) ∈ lw_all := lw_g (lw_at lw_m10 239 rfl) rfl
theorem q2501 : (Jvm.Cond.selects "LakeLevelsModel" ({ cls := "LakeLevelsModel", name := "digest", desc := "()J" } : Jvm.MethodName) ({ cls := "LakeLevelsModel", name := "digest", desc := "()J" } : Jvm.MethodName)) ∈ lw_all := lw_g (lw_at lw_m11 0 rfl) rfl
theorem q2502 : (Jvm.Cond.code ({ cls := "LakeLevelsModel", name := "digest", desc := "()J" } : Jvm.MethodName) prog_13_method_92_code (6 : Nat) (Option.some Jvm.ClassFile.FieldType.long)) ∈ lw_all := lw_g (lw_at lw_m11 1 rfl) rfl
theorem q2503 : (Jvm.Cond.constantLong "LakeLevelsModel" (335 : Nat) (3049 : Int64)) ∈ lw_all := lw_g (lw_at lw_m11 2 rfl) rfl
theorem q2504 : (Jvm.Cond.methodLink "LakeLevelsModel" (337 : Nat) ({ cls := "LakeLevelsModel", name := "sums", desc := "(JJ)J" } : Jvm.MethodName)) ∈ lw_all := lw_g (lw_at lw_m11 3 rfl) rfl
theorem q2505 : (Jvm.Cond.static ({ cls := "LakeLevelsModel", name := "sums", desc := "(JJ)J" } : Jvm.MethodName)) ∈ lw_all := lw_g (lw_at lw_m11 4 rfl) rfl
theorem q2506 : (Jvm.Cond.code ({ cls := "LakeLevelsModel", name := "sums", desc := "(JJ)J" } : Jvm.MethodName) prog_13_method_91_code (4 : Nat) (Option.some Jvm.ClassFile.FieldType.long)) ∈ lw_all := lw_g (lw_at lw_m11 5 rfl) rfl
theorem q2507 : (Jvm.Cond.constantLong "LakeLevelsModel" (333 : Nat) (31 : Int64)) ∈ lw_all := lw_g (lw_at lw_m11 6 rfl) rfl
theorem q2536 : (Jvm.Cond.castable "LakeLevelsModel" "java/lang/Object") ∈ lw_tbl := lw_at lw_m11 35 rfl
theorem in_X5 : ∀ w ∈ wsX50, w ∈ lw_all := lw_in wsX50 [2127, 2129, 2131, 2133, 2135, 2137, 2139, 2141, 2143, 2145, 2147, 2149, 2151, 2153, 2155, 2157, 2159, 2161, 2163, 2165, 2167, 2169, 2171, 2173, 2175] (by decide +kernel) (by decide +kernel)

