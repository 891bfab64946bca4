set_option maxRecDepth 100000
abbrev cX5_setDrain : ByteArray := prog_13_method_48_code
def yX5_setDrain : MethodName := ⟨RX5, "setDrain", "(IZ)Z"⟩
def dkwX5_setDrain_3 : List UInt8 := [42, 182, 0, 195, 29, 172]
abbrev dktX5_setDrain_3 : List UInt8 := dkwX5_setDrain_3 ++ []
def dkwX5_setDrain_2 : List UInt8 := [5, 47, 10, 27, 121, 129, 167, 0, 17, 42, 180, 0, 7, 5, 47, 10, 27, 121, 20, 0, 109, 131, 127, 80]
abbrev dktX5_setDrain_2 : List UInt8 := dkwX5_setDrain_2 ++ dktX5_setDrain_3
def dkwX5_setDrain_1 : List UInt8 := [42, 180, 0, 7, 5, 47, 27, 184, 0, 91, 62, 42, 180, 0, 7, 5, 28, 153, 0, 16, 42, 180, 0, 7]
abbrev dktX5_setDrain_1 : List UInt8 := dkwX5_setDrain_1 ++ dktX5_setDrain_2
def dkwX5_setDrain_0 : List UInt8 := [42, 42, 27, 182, 0, 73, 4, 4, 182, 0, 183, 154, 0, 5, 3, 172, 42, 182, 0, 187, 42, 182, 0, 192]
abbrev dktX5_setDrain_0 : List UInt8 := dkwX5_setDrain_0 ++ dktX5_setDrain_1
theorem dksX5_setDrain_0 : cX5_setDrain.data.toList.drop 0 = dktX5_setDrain_0 := by decide +kernel
theorem dksX5_setDrain_1 : cX5_setDrain.data.toList.drop 24 = dktX5_setDrain_1 := dk_seg dksX5_setDrain_0 24 rfl rfl
theorem dksX5_setDrain_2 : cX5_setDrain.data.toList.drop 48 = dktX5_setDrain_2 := dk_seg dksX5_setDrain_1 24 rfl rfl
theorem dksX5_setDrain_3 : cX5_setDrain.data.toList.drop 72 = dktX5_setDrain_3 := dk_seg dksX5_setDrain_2 24 rfl rfl
theorem dX5_setDrain_0 : decode cX5_setDrain 0 = .ok (.aload_n 0, 1) := dk_42 (dk_at dksX5_setDrain_0 0 rfl rfl)
theorem dX5_setDrain_1 : decode cX5_setDrain 1 = .ok (.aload_n 0, 1) := dk_42 (dk_at dksX5_setDrain_0 1 rfl rfl)
theorem dX5_setDrain_2 : decode cX5_setDrain 2 = .ok (.iload_n 1, 1) := dk_27 (dk_at dksX5_setDrain_0 2 rfl rfl)
theorem dX5_setDrain_3 : decode cX5_setDrain 3 = .ok (.invokevirtual 73, 3) := dk_182 0 73 (dk_at dksX5_setDrain_0 3 rfl rfl)
theorem dX5_setDrain_6 : decode cX5_setDrain 6 = .ok (.iconst 1, 1) := dk_4 (dk_at dksX5_setDrain_0 6 rfl rfl)
theorem dX5_setDrain_7 : decode cX5_setDrain 7 = .ok (.iconst 1, 1) := dk_4 (dk_at dksX5_setDrain_0 7 rfl rfl)
theorem dX5_setDrain_8 : decode cX5_setDrain 8 = .ok (.invokevirtual 183, 3) := dk_182 0 183 (dk_at dksX5_setDrain_0 8 rfl rfl)
theorem dX5_setDrain_11 : decode cX5_setDrain 11 = .ok (.ifCond .ne 5, 3) := dk_154 0 5 (dk_at dksX5_setDrain_0 11 rfl rfl)
theorem dX5_setDrain_14 : decode cX5_setDrain 14 = .ok (.iconst 0, 1) := dk_3 (dk_at dksX5_setDrain_0 14 rfl rfl)
theorem dX5_setDrain_15 : decode cX5_setDrain 15 = .ok (.ireturn, 1) := dk_172 (dk_at dksX5_setDrain_0 15 rfl rfl)
theorem dX5_setDrain_16 : decode cX5_setDrain 16 = .ok (.aload_n 0, 1) := dk_42 (dk_at dksX5_setDrain_0 16 rfl rfl)
theorem dX5_setDrain_17 : decode cX5_setDrain 17 = .ok (.invokevirtual 187, 3) := dk_182 0 187 (dk_at dksX5_setDrain_0 17 rfl rfl)
theorem dX5_setDrain_20 : decode cX5_setDrain 20 = .ok (.aload_n 0, 1) := dk_42 (dk_at dksX5_setDrain_0 20 rfl rfl)
theorem dX5_setDrain_21 : decode cX5_setDrain 21 = .ok (.invokevirtual 192, 3) := dk_182 0 192 (dk_at dksX5_setDrain_0 21 rfl rfl)
theorem dX5_setDrain_24 : decode cX5_setDrain 24 = .ok (.aload_n 0, 1) := dk_42 (dk_at dksX5_setDrain_1 0 rfl rfl)
theorem dX5_setDrain_25 : decode cX5_setDrain 25 = .ok (.getfield 7, 3) := dk_180 0 7 (dk_at dksX5_setDrain_1 1 rfl rfl)
theorem dX5_setDrain_28 : decode cX5_setDrain 28 = .ok (.iconst 2, 1) := dk_5 (dk_at dksX5_setDrain_1 4 rfl rfl)
theorem dX5_setDrain_29 : decode cX5_setDrain 29 = .ok (.laload, 1) := dk_47 (dk_at dksX5_setDrain_1 5 rfl rfl)
theorem dX5_setDrain_30 : decode cX5_setDrain 30 = .ok (.iload_n 1, 1) := dk_27 (dk_at dksX5_setDrain_1 6 rfl rfl)
theorem dX5_setDrain_31 : decode cX5_setDrain 31 = .ok (.invokestatic 91, 3) := dk_184 0 91 (dk_at dksX5_setDrain_1 7 rfl rfl)
theorem dX5_setDrain_34 : decode cX5_setDrain 34 = .ok (.istore_n 3, 1) := dk_62 (dk_at dksX5_setDrain_1 10 rfl rfl)
theorem dX5_setDrain_35 : decode cX5_setDrain 35 = .ok (.aload_n 0, 1) := dk_42 (dk_at dksX5_setDrain_1 11 rfl rfl)
theorem dX5_setDrain_36 : decode cX5_setDrain 36 = .ok (.getfield 7, 3) := dk_180 0 7 (dk_at dksX5_setDrain_1 12 rfl rfl)
theorem dX5_setDrain_39 : decode cX5_setDrain 39 = .ok (.iconst 2, 1) := dk_5 (dk_at dksX5_setDrain_1 15 rfl rfl)
theorem dX5_setDrain_40 : decode cX5_setDrain 40 = .ok (.iload_n 2, 1) := dk_28 (dk_at dksX5_setDrain_1 16 rfl rfl)
theorem dX5_setDrain_41 : decode cX5_setDrain 41 = .ok (.ifCond .eq 16, 3) := dk_153 0 16 (dk_at dksX5_setDrain_1 17 rfl rfl)
theorem dX5_setDrain_44 : decode cX5_setDrain 44 = .ok (.aload_n 0, 1) := dk_42 (dk_at dksX5_setDrain_1 20 rfl rfl)
theorem dX5_setDrain_45 : decode cX5_setDrain 45 = .ok (.getfield 7, 3) := dk_180 0 7 (dk_at dksX5_setDrain_1 21 rfl rfl)
theorem dX5_setDrain_48 : decode cX5_setDrain 48 = .ok (.iconst 2, 1) := dk_5 (dk_at dksX5_setDrain_2 0 rfl rfl)
theorem dX5_setDrain_49 : decode cX5_setDrain 49 = .ok (.laload, 1) := dk_47 (dk_at dksX5_setDrain_2 1 rfl rfl)
theorem dX5_setDrain_50 : decode cX5_setDrain 50 = .ok (.lconst 1, 1) := dk_10 (dk_at dksX5_setDrain_2 2 rfl rfl)
theorem dX5_setDrain_51 : decode cX5_setDrain 51 = .ok (.iload_n 1, 1) := dk_27 (dk_at dksX5_setDrain_2 3 rfl rfl)
theorem dX5_setDrain_52 : decode cX5_setDrain 52 = .ok (.lshl, 1) := dk_121 (dk_at dksX5_setDrain_2 4 rfl rfl)
theorem dX5_setDrain_53 : decode cX5_setDrain 53 = .ok (.lor, 1) := dk_129 (dk_at dksX5_setDrain_2 5 rfl rfl)
theorem dX5_setDrain_54 : decode cX5_setDrain 54 = .ok (.goto 17, 3) := dk_167 0 17 (dk_at dksX5_setDrain_2 6 rfl rfl)
theorem dX5_setDrain_57 : decode cX5_setDrain 57 = .ok (.aload_n 0, 1) := dk_42 (dk_at dksX5_setDrain_2 9 rfl rfl)
theorem dX5_setDrain_58 : decode cX5_setDrain 58 = .ok (.getfield 7, 3) := dk_180 0 7 (dk_at dksX5_setDrain_2 10 rfl rfl)
theorem dX5_setDrain_61 : decode cX5_setDrain 61 = .ok (.iconst 2, 1) := dk_5 (dk_at dksX5_setDrain_2 13 rfl rfl)
theorem dX5_setDrain_62 : decode cX5_setDrain 62 = .ok (.laload, 1) := dk_47 (dk_at dksX5_setDrain_2 14 rfl rfl)
theorem dX5_setDrain_63 : decode cX5_setDrain 63 = .ok (.lconst 1, 1) := dk_10 (dk_at dksX5_setDrain_2 15 rfl rfl)
theorem dX5_setDrain_64 : decode cX5_setDrain 64 = .ok (.iload_n 1, 1) := dk_27 (dk_at dksX5_setDrain_2 16 rfl rfl)
theorem dX5_setDrain_65 : decode cX5_setDrain 65 = .ok (.lshl, 1) := dk_121 (dk_at dksX5_setDrain_2 17 rfl rfl)
theorem dX5_setDrain_66 : decode cX5_setDrain 66 = .ok (.ldc2_w 109, 3) := dk_20 0 109 (dk_at dksX5_setDrain_2 18 rfl rfl)
theorem dX5_setDrain_69 : decode cX5_setDrain 69 = .ok (.lxor, 1) := dk_131 (dk_at dksX5_setDrain_2 21 rfl rfl)
theorem dX5_setDrain_70 : decode cX5_setDrain 70 = .ok (.land, 1) := dk_127 (dk_at dksX5_setDrain_2 22 rfl rfl)
theorem dX5_setDrain_71 : decode cX5_setDrain 71 = .ok (.lastore, 1) := dk_80 (dk_at dksX5_setDrain_2 23 rfl rfl)
theorem dX5_setDrain_72 : decode cX5_setDrain 72 = .ok (.aload_n 0, 1) := dk_42 (dk_at dksX5_setDrain_3 0 rfl rfl)
theorem dX5_setDrain_73 : decode cX5_setDrain 73 = .ok (.invokevirtual 195, 3) := dk_182 0 195 (dk_at dksX5_setDrain_3 1 rfl rfl)
theorem dX5_setDrain_76 : decode cX5_setDrain 76 = .ok (.iload_n 3, 1) := dk_29 (dk_at dksX5_setDrain_3 4 rfl rfl)
theorem dX5_setDrain_77 : decode cX5_setDrain 77 = .ok (.ireturn, 1) := dk_172 (dk_at dksX5_setDrain_3 5 rfl rfl)
abbrev cX5_setGate : ByteArray := prog_13_method_49_code
def yX5_setGate : MethodName := ⟨RX5, "setGate", "(III)I"⟩
def dkwX5_setGate_2 : List UInt8 := [136, 54, 4, 42, 180, 0, 7, 42, 27, 28, 182, 0, 81, 29, 133, 80, 42, 182, 0, 195, 21, 4, 172]
abbrev dktX5_setGate_2 : List UInt8 := dkwX5_setGate_2 ++ []
def dkwX5_setGate_1 : List UInt8 := [154, 0, 5, 3, 172, 42, 182, 0, 187, 42, 182, 0, 192, 42, 180, 0, 7, 42, 27, 28, 182, 0, 81, 47]
abbrev dktX5_setGate_1 : List UInt8 := dkwX5_setGate_1 ++ dktX5_setGate_2
def dkwX5_setGate_0 : List UInt8 := [42, 42, 27, 28, 182, 0, 198, 29, 133, 20, 0, 109, 20, 0, 190, 184, 0, 65, 4, 182, 0, 183]
abbrev dktX5_setGate_0 : List UInt8 := dkwX5_setGate_0 ++ dktX5_setGate_1
theorem dksX5_setGate_0 : cX5_setGate.data.toList.drop 0 = dktX5_setGate_0 := by decide +kernel
theorem dksX5_setGate_1 : cX5_setGate.data.toList.drop 22 = dktX5_setGate_1 := dk_seg dksX5_setGate_0 22 rfl rfl
theorem dksX5_setGate_2 : cX5_setGate.data.toList.drop 46 = dktX5_setGate_2 := dk_seg dksX5_setGate_1 24 rfl rfl
theorem dX5_setGate_0 : decode cX5_setGate 0 = .ok (.aload_n 0, 1) := dk_42 (dk_at dksX5_setGate_0 0 rfl rfl)
theorem dX5_setGate_1 : decode cX5_setGate 1 = .ok (.aload_n 0, 1) := dk_42 (dk_at dksX5_setGate_0 1 rfl rfl)
theorem dX5_setGate_2 : decode cX5_setGate 2 = .ok (.iload_n 1, 1) := dk_27 (dk_at dksX5_setGate_0 2 rfl rfl)
theorem dX5_setGate_3 : decode cX5_setGate 3 = .ok (.iload_n 2, 1) := dk_28 (dk_at dksX5_setGate_0 3 rfl rfl)
theorem dX5_setGate_4 : decode cX5_setGate 4 = .ok (.invokevirtual 198, 3) := dk_182 0 198 (dk_at dksX5_setGate_0 4 rfl rfl)
theorem dX5_setGate_7 : decode cX5_setGate 7 = .ok (.iload_n 3, 1) := dk_29 (dk_at dksX5_setGate_0 7 rfl rfl)
theorem dX5_setGate_8 : decode cX5_setGate 8 = .ok (.i2l, 1) := dk_133 (dk_at dksX5_setGate_0 8 rfl rfl)
theorem dX5_setGate_9 : decode cX5_setGate 9 = .ok (.ldc2_w 109, 3) := dk_20 0 109 (dk_at dksX5_setGate_0 9 rfl rfl)
theorem dX5_setGate_12 : decode cX5_setGate 12 = .ok (.ldc2_w 190, 3) := dk_20 0 190 (dk_at dksX5_setGate_0 12 rfl rfl)
theorem dX5_setGate_15 : decode cX5_setGate 15 = .ok (.invokestatic 65, 3) := dk_184 0 65 (dk_at dksX5_setGate_0 15 rfl rfl)
theorem dX5_setGate_18 : decode cX5_setGate 18 = .ok (.iconst 1, 1) := dk_4 (dk_at dksX5_setGate_0 18 rfl rfl)
theorem dX5_setGate_19 : decode cX5_setGate 19 = .ok (.invokevirtual 183, 3) := dk_182 0 183 (dk_at dksX5_setGate_0 19 rfl rfl)
theorem dX5_setGate_22 : decode cX5_setGate 22 = .ok (.ifCond .ne 5, 3) := dk_154 0 5 (dk_at dksX5_setGate_1 0 rfl rfl)
theorem dX5_setGate_25 : decode cX5_setGate 25 = .ok (.iconst 0, 1) := dk_3 (dk_at dksX5_setGate_1 3 rfl rfl)
theorem dX5_setGate_26 : decode cX5_setGate 26 = .ok (.ireturn, 1) := dk_172 (dk_at dksX5_setGate_1 4 rfl rfl)
theorem dX5_setGate_27 : decode cX5_setGate 27 = .ok (.aload_n 0, 1) := dk_42 (dk_at dksX5_setGate_1 5 rfl rfl)
theorem dX5_setGate_28 : decode cX5_setGate 28 = .ok (.invokevirtual 187, 3) := dk_182 0 187 (dk_at dksX5_setGate_1 6 rfl rfl)
theorem dX5_setGate_31 : decode cX5_setGate 31 = .ok (.aload_n 0, 1) := dk_42 (dk_at dksX5_setGate_1 9 rfl rfl)
theorem dX5_setGate_32 : decode cX5_setGate 32 = .ok (.invokevirtual 192, 3) := dk_182 0 192 (dk_at dksX5_setGate_1 10 rfl rfl)
theorem dX5_setGate_35 : decode cX5_setGate 35 = .ok (.aload_n 0, 1) := dk_42 (dk_at dksX5_setGate_1 13 rfl rfl)
theorem dX5_setGate_36 : decode cX5_setGate 36 = .ok (.getfield 7, 3) := dk_180 0 7 (dk_at dksX5_setGate_1 14 rfl rfl)
theorem dX5_setGate_39 : decode cX5_setGate 39 = .ok (.aload_n 0, 1) := dk_42 (dk_at dksX5_setGate_1 17 rfl rfl)
theorem dX5_setGate_40 : decode cX5_setGate 40 = .ok (.iload_n 1, 1) := dk_27 (dk_at dksX5_setGate_1 18 rfl rfl)
theorem dX5_setGate_41 : decode cX5_setGate 41 = .ok (.iload_n 2, 1) := dk_28 (dk_at dksX5_setGate_1 19 rfl rfl)
theorem dX5_setGate_42 : decode cX5_setGate 42 = .ok (.invokevirtual 81, 3) := dk_182 0 81 (dk_at dksX5_setGate_1 20 rfl rfl)
theorem dX5_setGate_45 : decode cX5_setGate 45 = .ok (.laload, 1) := dk_47 (dk_at dksX5_setGate_1 23 rfl rfl)
theorem dX5_setGate_46 : decode cX5_setGate 46 = .ok (.l2i, 1) := dk_136 (dk_at dksX5_setGate_2 0 rfl rfl)
theorem dX5_setGate_47 : decode cX5_setGate 47 = .ok (.istore 4, 2) := dk_54 4 (dk_at dksX5_setGate_2 1 rfl rfl)
theorem dX5_setGate_49 : decode cX5_setGate 49 = .ok (.aload_n 0, 1) := dk_42 (dk_at dksX5_setGate_2 3 rfl rfl)
theorem dX5_setGate_50 : decode cX5_setGate 50 = .ok (.getfield 7, 3) := dk_180 0 7 (dk_at dksX5_setGate_2 4 rfl rfl)
theorem dX5_setGate_53 : decode cX5_setGate 53 = .ok (.aload_n 0, 1) := dk_42 (dk_at dksX5_setGate_2 7 rfl rfl)
theorem dX5_setGate_54 : decode cX5_setGate 54 = .ok (.iload_n 1, 1) := dk_27 (dk_at dksX5_setGate_2 8 rfl rfl)
theorem dX5_setGate_55 : decode cX5_setGate 55 = .ok (.iload_n 2, 1) := dk_28 (dk_at dksX5_setGate_2 9 rfl rfl)
theorem dX5_setGate_56 : decode cX5_setGate 56 = .ok (.invokevirtual 81, 3) := dk_182 0 81 (dk_at dksX5_setGate_2 10 rfl rfl)
theorem dX5_setGate_59 : decode cX5_setGate 59 = .ok (.iload_n 3, 1) := dk_29 (dk_at dksX5_setGate_2 13 rfl rfl)
theorem dX5_setGate_60 : decode cX5_setGate 60 = .ok (.i2l, 1) := dk_133 (dk_at dksX5_setGate_2 14 rfl rfl)
theorem dX5_setGate_61 : decode cX5_setGate 61 = .ok (.lastore, 1) := dk_80 (dk_at dksX5_setGate_2 15 rfl rfl)
theorem dX5_setGate_62 : decode cX5_setGate 62 = .ok (.aload_n 0, 1) := dk_42 (dk_at dksX5_setGate_2 16 rfl rfl)
theorem dX5_setGate_63 : decode cX5_setGate 63 = .ok (.invokevirtual 195, 3) := dk_182 0 195 (dk_at dksX5_setGate_2 17 rfl rfl)
theorem dX5_setGate_66 : decode cX5_setGate 66 = .ok (.iload 4, 2) := dk_21 4 (dk_at dksX5_setGate_2 20 rfl rfl)
theorem dX5_setGate_68 : decode cX5_setGate 68 = .ok (.ireturn, 1) := dk_172 (dk_at dksX5_setGate_2 22 rfl rfl)
abbrev cX5_isPair : ByteArray := prog_13_method_13_code
def yX5_isPair : MethodName := ⟨RX5, "isPair", "(II)Z"⟩
def dkwX5_isPair_1 : List UInt8 := [153, 0, 7, 4, 167, 0, 4, 3, 172]
abbrev dktX5_isPair_1 : List UInt8 := dkwX5_isPair_1 ++ []
def dkwX5_isPair_0 : List UInt8 := [42, 27, 182, 0, 73, 153, 0, 24, 42, 28, 182, 0, 73, 153, 0, 16, 42, 27, 28, 182, 0, 77]
abbrev dktX5_isPair_0 : List UInt8 := dkwX5_isPair_0 ++ dktX5_isPair_1
theorem dksX5_isPair_0 : cX5_isPair.data.toList.drop 0 = dktX5_isPair_0 := by decide +kernel
theorem dksX5_isPair_1 : cX5_isPair.data.toList.drop 22 = dktX5_isPair_1 := dk_seg dksX5_isPair_0 22 rfl rfl
theorem dX5_isPair_0 : decode cX5_isPair 0 = .ok (.aload_n 0, 1) := dk_42 (dk_at dksX5_isPair_0 0 rfl rfl)
theorem dX5_isPair_1 : decode cX5_isPair 1 = .ok (.iload_n 1, 1) := dk_27 (dk_at dksX5_isPair_0 1 rfl rfl)
theorem dX5_isPair_2 : decode cX5_isPair 2 = .ok (.invokevirtual 73, 3) := dk_182 0 73 (dk_at dksX5_isPair_0 2 rfl rfl)
theorem dX5_isPair_5 : decode cX5_isPair 5 = .ok (.ifCond .eq 24, 3) := dk_153 0 24 (dk_at dksX5_isPair_0 5 rfl rfl)
theorem dX5_isPair_8 : decode cX5_isPair 8 = .ok (.aload_n 0, 1) := dk_42 (dk_at dksX5_isPair_0 8 rfl rfl)
theorem dX5_isPair_9 : decode cX5_isPair 9 = .ok (.iload_n 2, 1) := dk_28 (dk_at dksX5_isPair_0 9 rfl rfl)
theorem dX5_isPair_10 : decode cX5_isPair 10 = .ok (.invokevirtual 73, 3) := dk_182 0 73 (dk_at dksX5_isPair_0 10 rfl rfl)
theorem dX5_isPair_13 : decode cX5_isPair 13 = .ok (.ifCond .eq 16, 3) := dk_153 0 16 (dk_at dksX5_isPair_0 13 rfl rfl)
theorem dX5_isPair_16 : decode cX5_isPair 16 = .ok (.aload_n 0, 1) := dk_42 (dk_at dksX5_isPair_0 16 rfl rfl)
theorem dX5_isPair_17 : decode cX5_isPair 17 = .ok (.iload_n 1, 1) := dk_27 (dk_at dksX5_isPair_0 17 rfl rfl)
theorem dX5_isPair_18 : decode cX5_isPair 18 = .ok (.iload_n 2, 1) := dk_28 (dk_at dksX5_isPair_0 18 rfl rfl)
theorem dX5_isPair_19 : decode cX5_isPair 19 = .ok (.invokevirtual 77, 3) := dk_182 0 77 (dk_at dksX5_isPair_0 19 rfl rfl)
theorem dX5_isPair_22 : decode cX5_isPair 22 = .ok (.ifCond .eq 7, 3) := dk_153 0 7 (dk_at dksX5_isPair_1 0 rfl rfl)
theorem dX5_isPair_25 : decode cX5_isPair 25 = .ok (.iconst 1, 1) := dk_4 (dk_at dksX5_isPair_1 3 rfl rfl)
theorem dX5_isPair_26 : decode cX5_isPair 26 = .ok (.goto 4, 3) := dk_167 0 4 (dk_at dksX5_isPair_1 4 rfl rfl)
theorem dX5_isPair_29 : decode cX5_isPair 29 = .ok (.iconst 0, 1) := dk_3 (dk_at dksX5_isPair_1 7 rfl rfl)
theorem dX5_isPair_30 : decode cX5_isPair 30 = .ok (.ireturn, 1) := dk_172 (dk_at dksX5_isPair_1 8 rfl rfl)
abbrev cX5_areNeighbors : ByteArray := prog_13_method_12_code
def yX5_areNeighbors : MethodName := ⟨RX5, "areNeighbors", "(II)Z"⟩
def dkwX5_areNeighbors_1 : List UInt8 := [160, 0, 7, 4, 167, 0, 4, 3, 62, 132, 4, 1, 167, 255, 226, 29, 172]
abbrev dktX5_areNeighbors_1 : List UInt8 := dkwX5_areNeighbors_1 ++ []
def dkwX5_areNeighbors_0 : List UInt8 := [3, 62, 3, 54, 4, 21, 4, 7, 162, 0, 30, 29, 154, 0, 14, 42, 27, 21, 4, 182, 0, 69, 28]
abbrev dktX5_areNeighbors_0 : List UInt8 := dkwX5_areNeighbors_0 ++ dktX5_areNeighbors_1
theorem dksX5_areNeighbors_0 : cX5_areNeighbors.data.toList.drop 0 = dktX5_areNeighbors_0 := by decide +kernel
theorem dksX5_areNeighbors_1 : cX5_areNeighbors.data.toList.drop 23 = dktX5_areNeighbors_1 := dk_seg dksX5_areNeighbors_0 23 rfl rfl
theorem dX5_areNeighbors_0 : decode cX5_areNeighbors 0 = .ok (.iconst 0, 1) := dk_3 (dk_at dksX5_areNeighbors_0 0 rfl rfl)
theorem dX5_areNeighbors_1 : decode cX5_areNeighbors 1 = .ok (.istore_n 3, 1) := dk_62 (dk_at dksX5_areNeighbors_0 1 rfl rfl)
theorem dX5_areNeighbors_2 : decode cX5_areNeighbors 2 = .ok (.iconst 0, 1) := dk_3 (dk_at dksX5_areNeighbors_0 2 rfl rfl)
theorem dX5_areNeighbors_3 : decode cX5_areNeighbors 3 = .ok (.istore 4, 2) := dk_54 4 (dk_at dksX5_areNeighbors_0 3 rfl rfl)
theorem dX5_areNeighbors_5 : decode cX5_areNeighbors 5 = .ok (.iload 4, 2) := dk_21 4 (dk_at dksX5_areNeighbors_0 5 rfl rfl)
theorem dX5_areNeighbors_7 : decode cX5_areNeighbors 7 = .ok (.iconst 4, 1) := dk_7 (dk_at dksX5_areNeighbors_0 7 rfl rfl)
theorem dX5_areNeighbors_8 : decode cX5_areNeighbors 8 = .ok (.if_icmp .ge 30, 3) := dk_162 0 30 (dk_at dksX5_areNeighbors_0 8 rfl rfl)
theorem dX5_areNeighbors_11 : decode cX5_areNeighbors 11 = .ok (.iload_n 3, 1) := dk_29 (dk_at dksX5_areNeighbors_0 11 rfl rfl)
theorem dX5_areNeighbors_12 : decode cX5_areNeighbors 12 = .ok (.ifCond .ne 14, 3) := dk_154 0 14 (dk_at dksX5_areNeighbors_0 12 rfl rfl)
theorem dX5_areNeighbors_15 : decode cX5_areNeighbors 15 = .ok (.aload_n 0, 1) := dk_42 (dk_at dksX5_areNeighbors_0 15 rfl rfl)
theorem dX5_areNeighbors_16 : decode cX5_areNeighbors 16 = .ok (.iload_n 1, 1) := dk_27 (dk_at dksX5_areNeighbors_0 16 rfl rfl)
theorem dX5_areNeighbors_17 : decode cX5_areNeighbors 17 = .ok (.iload 4, 2) := dk_21 4 (dk_at dksX5_areNeighbors_0 17 rfl rfl)
theorem dX5_areNeighbors_19 : decode cX5_areNeighbors 19 = .ok (.invokevirtual 69, 3) := dk_182 0 69 (dk_at dksX5_areNeighbors_0 19 rfl rfl)
theorem dX5_areNeighbors_22 : decode cX5_areNeighbors 22 = .ok (.iload_n 2, 1) := dk_28 (dk_at dksX5_areNeighbors_0 22 rfl rfl)
theorem dX5_areNeighbors_23 : decode cX5_areNeighbors 23 = .ok (.if_icmp .ne 7, 3) := dk_160 0 7 (dk_at dksX5_areNeighbors_1 0 rfl rfl)
theorem dX5_areNeighbors_26 : decode cX5_areNeighbors 26 = .ok (.iconst 1, 1) := dk_4 (dk_at dksX5_areNeighbors_1 3 rfl rfl)
theorem dX5_areNeighbors_27 : decode cX5_areNeighbors 27 = .ok (.goto 4, 3) := dk_167 0 4 (dk_at dksX5_areNeighbors_1 4 rfl rfl)
theorem dX5_areNeighbors_30 : decode cX5_areNeighbors 30 = .ok (.iconst 0, 1) := dk_3 (dk_at dksX5_areNeighbors_1 7 rfl rfl)
theorem dX5_areNeighbors_31 : decode cX5_areNeighbors 31 = .ok (.istore_n 3, 1) := dk_62 (dk_at dksX5_areNeighbors_1 8 rfl rfl)
theorem dX5_areNeighbors_32 : decode cX5_areNeighbors 32 = .ok (.iinc 4 1, 3) := dk_132 4 1 (dk_at dksX5_areNeighbors_1 9 rfl rfl)
theorem dX5_areNeighbors_35 : decode cX5_areNeighbors 35 = .ok (.goto (-30), 3) := dk_167 255 226 (dk_at dksX5_areNeighbors_1 12 rfl rfl)
theorem dX5_areNeighbors_38 : decode cX5_areNeighbors 38 = .ok (.iload_n 3, 1) := dk_29 (dk_at dksX5_areNeighbors_1 15 rfl rfl)
theorem dX5_areNeighbors_39 : decode cX5_areNeighbors 39 = .ok (.ireturn, 1) := dk_172 (dk_at dksX5_areNeighbors_1 16 rfl rfl)
abbrev cX5_random : ByteArray := prog_13_method_50_code
def yX5_random : MethodName := ⟨RX5, "random", "(II)I"⟩
def dkwX5_random_4 : List UInt8 := [133, 10, 97, 113, 80, 132, 5, 1, 167, 255, 210, 42, 182, 0, 195, 42, 180, 0, 7, 16, 6, 47, 136, 172]
abbrev dktX5_random_4 : List UInt8 := dkwX5_random_4 ++ []
def dkwX5_random_3 : List UInt8 := [20, 0, 205, 97, 20, 0, 207, 113, 66, 42, 180, 0, 7, 16, 8, 21, 5, 96, 33, 20, 0, 209, 109, 28]
abbrev dktX5_random_3 : List UInt8 := dkwX5_random_3 ++ dktX5_random_4
def dkwX5_random_2 : List UInt8 := [182, 0, 192, 27, 133, 66, 3, 54, 5, 21, 5, 42, 182, 0, 61, 162, 0, 43, 20, 0, 203, 33, 105]
abbrev dktX5_random_2 : List UInt8 := dkwX5_random_2 ++ dktX5_random_3
def dkwX5_random_1 : List UInt8 := [153, 0, 7, 4, 167, 0, 4, 3, 4, 4, 182, 0, 183, 154, 0, 5, 3, 172, 42, 182, 0, 187, 42]
abbrev dktX5_random_1 : List UInt8 := dkwX5_random_1 ++ dktX5_random_2
def dkwX5_random_0 : List UInt8 := [42, 27, 133, 9, 20, 0, 201, 184, 0, 65, 153, 0, 19, 28, 133, 9, 20, 0, 190, 184, 0, 65]
abbrev dktX5_random_0 : List UInt8 := dkwX5_random_0 ++ dktX5_random_1
theorem dksX5_random_0 : cX5_random.data.toList.drop 0 = dktX5_random_0 := by decide +kernel
theorem dksX5_random_1 : cX5_random.data.toList.drop 22 = dktX5_random_1 := dk_seg dksX5_random_0 22 rfl rfl
theorem dksX5_random_2 : cX5_random.data.toList.drop 45 = dktX5_random_2 := dk_seg dksX5_random_1 23 rfl rfl
theorem dksX5_random_3 : cX5_random.data.toList.drop 68 = dktX5_random_3 := dk_seg dksX5_random_2 23 rfl rfl
theorem dksX5_random_4 : cX5_random.data.toList.drop 92 = dktX5_random_4 := dk_seg dksX5_random_3 24 rfl rfl
theorem dX5_random_0 : decode cX5_random 0 = .ok (.aload_n 0, 1) := dk_42 (dk_at dksX5_random_0 0 rfl rfl)
theorem dX5_random_1 : decode cX5_random 1 = .ok (.iload_n 1, 1) := dk_27 (dk_at dksX5_random_0 1 rfl rfl)
theorem dX5_random_2 : decode cX5_random 2 = .ok (.i2l, 1) := dk_133 (dk_at dksX5_random_0 2 rfl rfl)
theorem dX5_random_3 : decode cX5_random 3 = .ok (.lconst 0, 1) := dk_9 (dk_at dksX5_random_0 3 rfl rfl)
theorem dX5_random_4 : decode cX5_random 4 = .ok (.ldc2_w 201, 3) := dk_20 0 201 (dk_at dksX5_random_0 4 rfl rfl)
theorem dX5_random_7 : decode cX5_random 7 = .ok (.invokestatic 65, 3) := dk_184 0 65 (dk_at dksX5_random_0 7 rfl rfl)
theorem dX5_random_10 : decode cX5_random 10 = .ok (.ifCond .eq 19, 3) := dk_153 0 19 (dk_at dksX5_random_0 10 rfl rfl)
theorem dX5_random_13 : decode cX5_random 13 = .ok (.iload_n 2, 1) := dk_28 (dk_at dksX5_random_0 13 rfl rfl)
theorem dX5_random_14 : decode cX5_random 14 = .ok (.i2l, 1) := dk_133 (dk_at dksX5_random_0 14 rfl rfl)
theorem dX5_random_15 : decode cX5_random 15 = .ok (.lconst 0, 1) := dk_9 (dk_at dksX5_random_0 15 rfl rfl)
theorem dX5_random_16 : decode cX5_random 16 = .ok (.ldc2_w 190, 3) := dk_20 0 190 (dk_at dksX5_random_0 16 rfl rfl)
theorem dX5_random_19 : decode cX5_random 19 = .ok (.invokestatic 65, 3) := dk_184 0 65 (dk_at dksX5_random_0 19 rfl rfl)
theorem dX5_random_22 : decode cX5_random 22 = .ok (.ifCond .eq 7, 3) := dk_153 0 7 (dk_at dksX5_random_1 0 rfl rfl)
theorem dX5_random_25 : decode cX5_random 25 = .ok (.iconst 1, 1) := dk_4 (dk_at dksX5_random_1 3 rfl rfl)
theorem dX5_random_26 : decode cX5_random 26 = .ok (.goto 4, 3) := dk_167 0 4 (dk_at dksX5_random_1 4 rfl rfl)
theorem dX5_random_29 : decode cX5_random 29 = .ok (.iconst 0, 1) := dk_3 (dk_at dksX5_random_1 7 rfl rfl)
theorem dX5_random_30 : decode cX5_random 30 = .ok (.iconst 1, 1) := dk_4 (dk_at dksX5_random_1 8 rfl rfl)
theorem dX5_random_31 : decode cX5_random 31 = .ok (.iconst 1, 1) := dk_4 (dk_at dksX5_random_1 9 rfl rfl)
theorem dX5_random_32 : decode cX5_random 32 = .ok (.invokevirtual 183, 3) := dk_182 0 183 (dk_at dksX5_random_1 10 rfl rfl)
theorem dX5_random_35 : decode cX5_random 35 = .ok (.ifCond .ne 5, 3) := dk_154 0 5 (dk_at dksX5_random_1 13 rfl rfl)
theorem dX5_random_38 : decode cX5_random 38 = .ok (.iconst 0, 1) := dk_3 (dk_at dksX5_random_1 16 rfl rfl)
theorem dX5_random_39 : decode cX5_random 39 = .ok (.ireturn, 1) := dk_172 (dk_at dksX5_random_1 17 rfl rfl)
theorem dX5_random_40 : decode cX5_random 40 = .ok (.aload_n 0, 1) := dk_42 (dk_at dksX5_random_1 18 rfl rfl)
theorem dX5_random_41 : decode cX5_random 41 = .ok (.invokevirtual 187, 3) := dk_182 0 187 (dk_at dksX5_random_1 19 rfl rfl)
theorem dX5_random_44 : decode cX5_random 44 = .ok (.aload_n 0, 1) := dk_42 (dk_at dksX5_random_1 22 rfl rfl)
theorem dX5_random_45 : decode cX5_random 45 = .ok (.invokevirtual 192, 3) := dk_182 0 192 (dk_at dksX5_random_2 0 rfl rfl)
theorem dX5_random_48 : decode cX5_random 48 = .ok (.iload_n 1, 1) := dk_27 (dk_at dksX5_random_2 3 rfl rfl)
theorem dX5_random_49 : decode cX5_random 49 = .ok (.i2l, 1) := dk_133 (dk_at dksX5_random_2 4 rfl rfl)
theorem dX5_random_50 : decode cX5_random 50 = .ok (.lstore_n 3, 1) := dk_66 (dk_at dksX5_random_2 5 rfl rfl)
theorem dX5_random_51 : decode cX5_random 51 = .ok (.iconst 0, 1) := dk_3 (dk_at dksX5_random_2 6 rfl rfl)
theorem dX5_random_52 : decode cX5_random 52 = .ok (.istore 5, 2) := dk_54 5 (dk_at dksX5_random_2 7 rfl rfl)
theorem dX5_random_54 : decode cX5_random 54 = .ok (.iload 5, 2) := dk_21 5 (dk_at dksX5_random_2 9 rfl rfl)
theorem dX5_random_56 : decode cX5_random 56 = .ok (.aload_n 0, 1) := dk_42 (dk_at dksX5_random_2 11 rfl rfl)
theorem dX5_random_57 : decode cX5_random 57 = .ok (.invokevirtual 61, 3) := dk_182 0 61 (dk_at dksX5_random_2 12 rfl rfl)
theorem dX5_random_60 : decode cX5_random 60 = .ok (.if_icmp .ge 43, 3) := dk_162 0 43 (dk_at dksX5_random_2 15 rfl rfl)
theorem dX5_random_63 : decode cX5_random 63 = .ok (.ldc2_w 203, 3) := dk_20 0 203 (dk_at dksX5_random_2 18 rfl rfl)
theorem dX5_random_66 : decode cX5_random 66 = .ok (.lload_n 3, 1) := dk_33 (dk_at dksX5_random_2 21 rfl rfl)
theorem dX5_random_67 : decode cX5_random 67 = .ok (.lmul, 1) := dk_105 (dk_at dksX5_random_2 22 rfl rfl)
theorem dX5_random_68 : decode cX5_random 68 = .ok (.ldc2_w 205, 3) := dk_20 0 205 (dk_at dksX5_random_3 0 rfl rfl)
theorem dX5_random_71 : decode cX5_random 71 = .ok (.ladd, 1) := dk_97 (dk_at dksX5_random_3 3 rfl rfl)
theorem dX5_random_72 : decode cX5_random 72 = .ok (.ldc2_w 207, 3) := dk_20 0 207 (dk_at dksX5_random_3 4 rfl rfl)
theorem dX5_random_75 : decode cX5_random 75 = .ok (.lrem, 1) := dk_113 (dk_at dksX5_random_3 7 rfl rfl)
theorem dX5_random_76 : decode cX5_random 76 = .ok (.lstore_n 3, 1) := dk_66 (dk_at dksX5_random_3 8 rfl rfl)
theorem dX5_random_77 : decode cX5_random 77 = .ok (.aload_n 0, 1) := dk_42 (dk_at dksX5_random_3 9 rfl rfl)
theorem dX5_random_78 : decode cX5_random 78 = .ok (.getfield 7, 3) := dk_180 0 7 (dk_at dksX5_random_3 10 rfl rfl)
theorem dX5_random_81 : decode cX5_random 81 = .ok (.bipush 8, 2) := dk_16 8 (dk_at dksX5_random_3 13 rfl rfl)
theorem dX5_random_83 : decode cX5_random 83 = .ok (.iload 5, 2) := dk_21 5 (dk_at dksX5_random_3 15 rfl rfl)
theorem dX5_random_85 : decode cX5_random 85 = .ok (.iadd, 1) := dk_96 (dk_at dksX5_random_3 17 rfl rfl)
theorem dX5_random_86 : decode cX5_random 86 = .ok (.lload_n 3, 1) := dk_33 (dk_at dksX5_random_3 18 rfl rfl)
theorem dX5_random_87 : decode cX5_random 87 = .ok (.ldc2_w 209, 3) := dk_20 0 209 (dk_at dksX5_random_3 19 rfl rfl)
theorem dX5_random_90 : decode cX5_random 90 = .ok (.ldiv, 1) := dk_109 (dk_at dksX5_random_3 22 rfl rfl)
theorem dX5_random_91 : decode cX5_random 91 = .ok (.iload_n 2, 1) := dk_28 (dk_at dksX5_random_3 23 rfl rfl)
theorem dX5_random_92 : decode cX5_random 92 = .ok (.i2l, 1) := dk_133 (dk_at dksX5_random_4 0 rfl rfl)
theorem dX5_random_93 : decode cX5_random 93 = .ok (.lconst 1, 1) := dk_10 (dk_at dksX5_random_4 1 rfl rfl)
theorem dX5_random_94 : decode cX5_random 94 = .ok (.ladd, 1) := dk_97 (dk_at dksX5_random_4 2 rfl rfl)
theorem dX5_random_95 : decode cX5_random 95 = .ok (.lrem, 1) := dk_113 (dk_at dksX5_random_4 3 rfl rfl)
theorem dX5_random_96 : decode cX5_random 96 = .ok (.lastore, 1) := dk_80 (dk_at dksX5_random_4 4 rfl rfl)
theorem dX5_random_97 : decode cX5_random 97 = .ok (.iinc 5 1, 3) := dk_132 5 1 (dk_at dksX5_random_4 5 rfl rfl)
theorem dX5_random_100 : decode cX5_random 100 = .ok (.goto (-46), 3) := dk_167 255 210 (dk_at dksX5_random_4 8 rfl rfl)
theorem dX5_random_103 : decode cX5_random 103 = .ok (.aload_n 0, 1) := dk_42 (dk_at dksX5_random_4 11 rfl rfl)
theorem dX5_random_104 : decode cX5_random 104 = .ok (.invokevirtual 195, 3) := dk_182 0 195 (dk_at dksX5_random_4 12 rfl rfl)
theorem dX5_random_107 : decode cX5_random 107 = .ok (.aload_n 0, 1) := dk_42 (dk_at dksX5_random_4 15 rfl rfl)
theorem dX5_random_108 : decode cX5_random 108 = .ok (.getfield 7, 3) := dk_180 0 7 (dk_at dksX5_random_4 16 rfl rfl)
theorem dX5_random_111 : decode cX5_random 111 = .ok (.bipush 6, 2) := dk_16 6 (dk_at dksX5_random_4 19 rfl rfl)
theorem dX5_random_113 : decode cX5_random 113 = .ok (.laload, 1) := dk_47 (dk_at dksX5_random_4 21 rfl rfl)
theorem dX5_random_114 : decode cX5_random 114 = .ok (.l2i, 1) := dk_136 (dk_at dksX5_random_4 22 rfl rfl)
theorem dX5_random_115 : decode cX5_random 115 = .ok (.ireturn, 1) := dk_172 (dk_at dksX5_random_4 23 rfl rfl)
abbrev cX5_cell : ByteArray := prog_13_method_52_code
def yX5_cell : MethodName := ⟨RX5, "cell", "(II)I"⟩
def dkwX5_cell_1 : List UInt8 := [28, 182, 0, 216, 167, 0, 4, 3, 172]
abbrev dktX5_cell_1 : List UInt8 := dkwX5_cell_1 ++ []
def dkwX5_cell_0 : List UInt8 := [42, 42, 27, 182, 0, 73, 28, 133, 9, 20, 0, 214, 184, 0, 65, 4, 182, 0, 183, 153, 0, 12, 42, 27]
abbrev dktX5_cell_0 : List UInt8 := dkwX5_cell_0 ++ dktX5_cell_1
theorem dksX5_cell_0 : cX5_cell.data.toList.drop 0 = dktX5_cell_0 := by decide +kernel
theorem dksX5_cell_1 : cX5_cell.data.toList.drop 24 = dktX5_cell_1 := dk_seg dksX5_cell_0 24 rfl rfl
theorem dX5_cell_0 : decode cX5_cell 0 = .ok (.aload_n 0, 1) := dk_42 (dk_at dksX5_cell_0 0 rfl rfl)
theorem dX5_cell_1 : decode cX5_cell 1 = .ok (.aload_n 0, 1) := dk_42 (dk_at dksX5_cell_0 1 rfl rfl)
theorem dX5_cell_2 : decode cX5_cell 2 = .ok (.iload_n 1, 1) := dk_27 (dk_at dksX5_cell_0 2 rfl rfl)
theorem dX5_cell_3 : decode cX5_cell 3 = .ok (.invokevirtual 73, 3) := dk_182 0 73 (dk_at dksX5_cell_0 3 rfl rfl)
theorem dX5_cell_6 : decode cX5_cell 6 = .ok (.iload_n 2, 1) := dk_28 (dk_at dksX5_cell_0 6 rfl rfl)
theorem dX5_cell_7 : decode cX5_cell 7 = .ok (.i2l, 1) := dk_133 (dk_at dksX5_cell_0 7 rfl rfl)
theorem dX5_cell_8 : decode cX5_cell 8 = .ok (.lconst 0, 1) := dk_9 (dk_at dksX5_cell_0 8 rfl rfl)
theorem dX5_cell_9 : decode cX5_cell 9 = .ok (.ldc2_w 214, 3) := dk_20 0 214 (dk_at dksX5_cell_0 9 rfl rfl)
theorem dX5_cell_12 : decode cX5_cell 12 = .ok (.invokestatic 65, 3) := dk_184 0 65 (dk_at dksX5_cell_0 12 rfl rfl)
theorem dX5_cell_15 : decode cX5_cell 15 = .ok (.iconst 1, 1) := dk_4 (dk_at dksX5_cell_0 15 rfl rfl)
theorem dX5_cell_16 : decode cX5_cell 16 = .ok (.invokevirtual 183, 3) := dk_182 0 183 (dk_at dksX5_cell_0 16 rfl rfl)
theorem dX5_cell_19 : decode cX5_cell 19 = .ok (.ifCond .eq 12, 3) := dk_153 0 12 (dk_at dksX5_cell_0 19 rfl rfl)
theorem dX5_cell_22 : decode cX5_cell 22 = .ok (.aload_n 0, 1) := dk_42 (dk_at dksX5_cell_0 22 rfl rfl)
theorem dX5_cell_23 : decode cX5_cell 23 = .ok (.iload_n 1, 1) := dk_27 (dk_at dksX5_cell_0 23 rfl rfl)
theorem dX5_cell_24 : decode cX5_cell 24 = .ok (.iload_n 2, 1) := dk_28 (dk_at dksX5_cell_1 0 rfl rfl)
theorem dX5_cell_25 : decode cX5_cell 25 = .ok (.invokevirtual 216, 3) := dk_182 0 216 (dk_at dksX5_cell_1 1 rfl rfl)
theorem dX5_cell_28 : decode cX5_cell 28 = .ok (.goto 4, 3) := dk_167 0 4 (dk_at dksX5_cell_1 4 rfl rfl)
theorem dX5_cell_31 : decode cX5_cell 31 = .ok (.iconst 0, 1) := dk_3 (dk_at dksX5_cell_1 7 rfl rfl)
theorem dX5_cell_32 : decode cX5_cell 32 = .ok (.ireturn, 1) := dk_172 (dk_at dksX5_cell_1 8 rfl rfl)
abbrev cX5_cellValue : ByteArray := prog_13_method_51_code
def yX5_cellValue : MethodName := ⟨RX5, "cellValue", "(II)I"⟩
def dkwX5_cellValue_5 : List UInt8 := [180, 0, 7, 17, 2, 0, 47, 27, 184, 0, 91, 153, 0, 7, 4, 167, 0, 4, 3, 172]
abbrev dktX5_cellValue_5 : List UInt8 := dkwX5_cellValue_5 ++ []
def dkwX5_cellValue_4 : List UInt8 := [167, 0, 8, 42, 29, 182, 0, 211, 172, 42, 27, 182, 0, 165, 153, 0, 7, 4, 167, 0, 4, 3, 172, 42]
abbrev dktX5_cellValue_4 : List UInt8 := dkwX5_cellValue_4 ++ dktX5_cellValue_5
def dkwX5_cellValue_3 : List UInt8 := [172, 42, 180, 0, 7, 16, 116, 27, 96, 47, 136, 172, 42, 182, 0, 152, 29, 2, 160, 0, 7, 2]
abbrev dktX5_cellValue_3 : List UInt8 := dkwX5_cellValue_3 ++ dktX5_cellValue_4
def dkwX5_cellValue_2 : List UInt8 := [42, 27, 182, 0, 87, 172, 42, 180, 0, 7, 5, 47, 27, 184, 0, 91, 153, 0, 7, 4, 167, 0, 4, 3]
abbrev dktX5_cellValue_2 : List UInt8 := dkwX5_cellValue_2 ++ dktX5_cellValue_3
def dkwX5_cellValue_1 : List UInt8 := [170, 0, 0, 0, 102, 0, 0, 0, 0, 0, 0, 0, 4, 0, 0, 0, 33, 0, 0, 0, 39, 0, 0, 0, 58, 0, 0, 0, 69, 0, 0, 0, 88]
abbrev dktX5_cellValue_1 : List UInt8 := dkwX5_cellValue_1 ++ dktX5_cellValue_2
def dkwX5_cellValue_0 : List UInt8 := [42, 27, 182, 0, 133, 62, 28]
abbrev dktX5_cellValue_0 : List UInt8 := dkwX5_cellValue_0 ++ dktX5_cellValue_1
theorem dksX5_cellValue_0 : cX5_cellValue.data.toList.drop 0 = dktX5_cellValue_0 := by decide +kernel
theorem dksX5_cellValue_1 : cX5_cellValue.data.toList.drop 7 = dktX5_cellValue_1 := dk_seg dksX5_cellValue_0 7 rfl rfl
theorem dksX5_cellValue_2 : cX5_cellValue.data.toList.drop 40 = dktX5_cellValue_2 := dk_seg dksX5_cellValue_1 33 rfl rfl
theorem dksX5_cellValue_3 : cX5_cellValue.data.toList.drop 64 = dktX5_cellValue_3 := dk_seg dksX5_cellValue_2 24 rfl rfl
theorem dksX5_cellValue_4 : cX5_cellValue.data.toList.drop 86 = dktX5_cellValue_4 := dk_seg dksX5_cellValue_3 22 rfl rfl
theorem dksX5_cellValue_5 : cX5_cellValue.data.toList.drop 110 = dktX5_cellValue_5 := dk_seg dksX5_cellValue_4 24 rfl rfl
theorem dX5_cellValue_0 : decode cX5_cellValue 0 = .ok (.aload_n 0, 1) := dk_42 (dk_at dksX5_cellValue_0 0 rfl rfl)
theorem dX5_cellValue_1 : decode cX5_cellValue 1 = .ok (.iload_n 1, 1) := dk_27 (dk_at dksX5_cellValue_0 1 rfl rfl)
theorem dX5_cellValue_2 : decode cX5_cellValue 2 = .ok (.invokevirtual 133, 3) := dk_182 0 133 (dk_at dksX5_cellValue_0 2 rfl rfl)
theorem dX5_cellValue_5 : decode cX5_cellValue 5 = .ok (.istore_n 3, 1) := dk_62 (dk_at dksX5_cellValue_0 5 rfl rfl)
theorem dX5_cellValue_6 : decode cX5_cellValue 6 = .ok (.iload_n 2, 1) := dk_28 (dk_at dksX5_cellValue_0 6 rfl rfl)
theorem dX5_cellValue_7 : decode cX5_cellValue 7 = .ok (.tableswitch 102 0 4 #[33, 39, 58, 69, 88], 33) := by decide +kernel
theorem dX5_cellValue_40 : decode cX5_cellValue 40 = .ok (.aload_n 0, 1) := dk_42 (dk_at dksX5_cellValue_2 0 rfl rfl)
theorem dX5_cellValue_41 : decode cX5_cellValue 41 = .ok (.iload_n 1, 1) := dk_27 (dk_at dksX5_cellValue_2 1 rfl rfl)
theorem dX5_cellValue_42 : decode cX5_cellValue 42 = .ok (.invokevirtual 87, 3) := dk_182 0 87 (dk_at dksX5_cellValue_2 2 rfl rfl)
theorem dX5_cellValue_45 : decode cX5_cellValue 45 = .ok (.ireturn, 1) := dk_172 (dk_at dksX5_cellValue_2 5 rfl rfl)
theorem dX5_cellValue_46 : decode cX5_cellValue 46 = .ok (.aload_n 0, 1) := dk_42 (dk_at dksX5_cellValue_2 6 rfl rfl)
theorem dX5_cellValue_47 : decode cX5_cellValue 47 = .ok (.getfield 7, 3) := dk_180 0 7 (dk_at dksX5_cellValue_2 7 rfl rfl)
theorem dX5_cellValue_50 : decode cX5_cellValue 50 = .ok (.iconst 2, 1) := dk_5 (dk_at dksX5_cellValue_2 10 rfl rfl)
theorem dX5_cellValue_51 : decode cX5_cellValue 51 = .ok (.laload, 1) := dk_47 (dk_at dksX5_cellValue_2 11 rfl rfl)
theorem dX5_cellValue_52 : decode cX5_cellValue 52 = .ok (.iload_n 1, 1) := dk_27 (dk_at dksX5_cellValue_2 12 rfl rfl)
theorem dX5_cellValue_53 : decode cX5_cellValue 53 = .ok (.invokestatic 91, 3) := dk_184 0 91 (dk_at dksX5_cellValue_2 13 rfl rfl)
theorem dX5_cellValue_56 : decode cX5_cellValue 56 = .ok (.ifCond .eq 7, 3) := dk_153 0 7 (dk_at dksX5_cellValue_2 16 rfl rfl)
theorem dX5_cellValue_59 : decode cX5_cellValue 59 = .ok (.iconst 1, 1) := dk_4 (dk_at dksX5_cellValue_2 19 rfl rfl)
theorem dX5_cellValue_60 : decode cX5_cellValue 60 = .ok (.goto 4, 3) := dk_167 0 4 (dk_at dksX5_cellValue_2 20 rfl rfl)
theorem dX5_cellValue_63 : decode cX5_cellValue 63 = .ok (.iconst 0, 1) := dk_3 (dk_at dksX5_cellValue_2 23 rfl rfl)
theorem dX5_cellValue_64 : decode cX5_cellValue 64 = .ok (.ireturn, 1) := dk_172 (dk_at dksX5_cellValue_3 0 rfl rfl)
theorem dX5_cellValue_65 : decode cX5_cellValue 65 = .ok (.aload_n 0, 1) := dk_42 (dk_at dksX5_cellValue_3 1 rfl rfl)
theorem dX5_cellValue_66 : decode cX5_cellValue 66 = .ok (.getfield 7, 3) := dk_180 0 7 (dk_at dksX5_cellValue_3 2 rfl rfl)
theorem dX5_cellValue_69 : decode cX5_cellValue 69 = .ok (.bipush 116, 2) := dk_16 116 (dk_at dksX5_cellValue_3 5 rfl rfl)
theorem dX5_cellValue_71 : decode cX5_cellValue 71 = .ok (.iload_n 1, 1) := dk_27 (dk_at dksX5_cellValue_3 7 rfl rfl)
theorem dX5_cellValue_72 : decode cX5_cellValue 72 = .ok (.iadd, 1) := dk_96 (dk_at dksX5_cellValue_3 8 rfl rfl)
theorem dX5_cellValue_73 : decode cX5_cellValue 73 = .ok (.laload, 1) := dk_47 (dk_at dksX5_cellValue_3 9 rfl rfl)
theorem dX5_cellValue_74 : decode cX5_cellValue 74 = .ok (.l2i, 1) := dk_136 (dk_at dksX5_cellValue_3 10 rfl rfl)
theorem dX5_cellValue_75 : decode cX5_cellValue 75 = .ok (.ireturn, 1) := dk_172 (dk_at dksX5_cellValue_3 11 rfl rfl)
theorem dX5_cellValue_76 : decode cX5_cellValue 76 = .ok (.aload_n 0, 1) := dk_42 (dk_at dksX5_cellValue_3 12 rfl rfl)
theorem dX5_cellValue_77 : decode cX5_cellValue 77 = .ok (.invokevirtual 152, 3) := dk_182 0 152 (dk_at dksX5_cellValue_3 13 rfl rfl)
theorem dX5_cellValue_80 : decode cX5_cellValue 80 = .ok (.iload_n 3, 1) := dk_29 (dk_at dksX5_cellValue_3 16 rfl rfl)
theorem dX5_cellValue_81 : decode cX5_cellValue 81 = .ok (.iconst (-1), 1) := dk_2 (dk_at dksX5_cellValue_3 17 rfl rfl)
theorem dX5_cellValue_82 : decode cX5_cellValue 82 = .ok (.if_icmp .ne 7, 3) := dk_160 0 7 (dk_at dksX5_cellValue_3 18 rfl rfl)
theorem dX5_cellValue_85 : decode cX5_cellValue 85 = .ok (.iconst (-1), 1) := dk_2 (dk_at dksX5_cellValue_3 21 rfl rfl)
theorem dX5_cellValue_86 : decode cX5_cellValue 86 = .ok (.goto 8, 3) := dk_167 0 8 (dk_at dksX5_cellValue_4 0 rfl rfl)
theorem dX5_cellValue_89 : decode cX5_cellValue 89 = .ok (.aload_n 0, 1) := dk_42 (dk_at dksX5_cellValue_4 3 rfl rfl)
theorem dX5_cellValue_90 : decode cX5_cellValue 90 = .ok (.iload_n 3, 1) := dk_29 (dk_at dksX5_cellValue_4 4 rfl rfl)
theorem dX5_cellValue_91 : decode cX5_cellValue 91 = .ok (.invokevirtual 211, 3) := dk_182 0 211 (dk_at dksX5_cellValue_4 5 rfl rfl)
theorem dX5_cellValue_94 : decode cX5_cellValue 94 = .ok (.ireturn, 1) := dk_172 (dk_at dksX5_cellValue_4 8 rfl rfl)
theorem dX5_cellValue_95 : decode cX5_cellValue 95 = .ok (.aload_n 0, 1) := dk_42 (dk_at dksX5_cellValue_4 9 rfl rfl)
theorem dX5_cellValue_96 : decode cX5_cellValue 96 = .ok (.iload_n 1, 1) := dk_27 (dk_at dksX5_cellValue_4 10 rfl rfl)
theorem dX5_cellValue_97 : decode cX5_cellValue 97 = .ok (.invokevirtual 165, 3) := dk_182 0 165 (dk_at dksX5_cellValue_4 11 rfl rfl)
theorem dX5_cellValue_100 : decode cX5_cellValue 100 = .ok (.ifCond .eq 7, 3) := dk_153 0 7 (dk_at dksX5_cellValue_4 14 rfl rfl)
theorem dX5_cellValue_103 : decode cX5_cellValue 103 = .ok (.iconst 1, 1) := dk_4 (dk_at dksX5_cellValue_4 17 rfl rfl)
theorem dX5_cellValue_104 : decode cX5_cellValue 104 = .ok (.goto 4, 3) := dk_167 0 4 (dk_at dksX5_cellValue_4 18 rfl rfl)
theorem dX5_cellValue_107 : decode cX5_cellValue 107 = .ok (.iconst 0, 1) := dk_3 (dk_at dksX5_cellValue_4 21 rfl rfl)
theorem dX5_cellValue_108 : decode cX5_cellValue 108 = .ok (.ireturn, 1) := dk_172 (dk_at dksX5_cellValue_4 22 rfl rfl)
theorem dX5_cellValue_109 : decode cX5_cellValue 109 = .ok (.aload_n 0, 1) := dk_42 (dk_at dksX5_cellValue_4 23 rfl rfl)
theorem dX5_cellValue_110 : decode cX5_cellValue 110 = .ok (.getfield 7, 3) := dk_180 0 7 (dk_at dksX5_cellValue_5 0 rfl rfl)
theorem dX5_cellValue_113 : decode cX5_cellValue 113 = .ok (.sipush 512, 3) := dk_17 2 0 (dk_at dksX5_cellValue_5 3 rfl rfl)
theorem dX5_cellValue_116 : decode cX5_cellValue 116 = .ok (.laload, 1) := dk_47 (dk_at dksX5_cellValue_5 6 rfl rfl)
theorem dX5_cellValue_117 : decode cX5_cellValue 117 = .ok (.iload_n 1, 1) := dk_27 (dk_at dksX5_cellValue_5 7 rfl rfl)
theorem dX5_cellValue_118 : decode cX5_cellValue 118 = .ok (.invokestatic 91, 3) := dk_184 0 91 (dk_at dksX5_cellValue_5 8 rfl rfl)
theorem dX5_cellValue_121 : decode cX5_cellValue 121 = .ok (.ifCond .eq 7, 3) := dk_153 0 7 (dk_at dksX5_cellValue_5 11 rfl rfl)
theorem dX5_cellValue_124 : decode cX5_cellValue 124 = .ok (.iconst 1, 1) := dk_4 (dk_at dksX5_cellValue_5 14 rfl rfl)
theorem dX5_cellValue_125 : decode cX5_cellValue 125 = .ok (.goto 4, 3) := dk_167 0 4 (dk_at dksX5_cellValue_5 15 rfl rfl)
theorem dX5_cellValue_128 : decode cX5_cellValue 128 = .ok (.iconst 0, 1) := dk_3 (dk_at dksX5_cellValue_5 18 rfl rfl)
theorem dX5_cellValue_129 : decode cX5_cellValue 129 = .ok (.ireturn, 1) := dk_172 (dk_at dksX5_cellValue_5 19 rfl rfl)
abbrev cX5_numberOf : ByteArray := prog_13_method_34_code
def yX5_numberOf : MethodName := ⟨RX5, "numberOf", "(I)I"⟩
def dkwX5_numberOf_0 : List UInt8 := [3, 61, 42, 180, 0, 29, 28, 46, 27, 159, 0, 9, 132, 2, 1, 167, 255, 243, 28, 172]
abbrev dktX5_numberOf_0 : List UInt8 := dkwX5_numberOf_0 ++ []
theorem dksX5_numberOf_0 : cX5_numberOf.data.toList.drop 0 = dktX5_numberOf_0 := by decide +kernel
theorem dX5_numberOf_0 : decode cX5_numberOf 0 = .ok (.iconst 0, 1) := dk_3 (dk_at dksX5_numberOf_0 0 rfl rfl)
theorem dX5_numberOf_1 : decode cX5_numberOf 1 = .ok (.istore_n 2, 1) := dk_61 (dk_at dksX5_numberOf_0 1 rfl rfl)
theorem dX5_numberOf_2 : decode cX5_numberOf 2 = .ok (.aload_n 0, 1) := dk_42 (dk_at dksX5_numberOf_0 2 rfl rfl)
theorem dX5_numberOf_3 : decode cX5_numberOf 3 = .ok (.getfield 29, 3) := dk_180 0 29 (dk_at dksX5_numberOf_0 3 rfl rfl)
theorem dX5_numberOf_6 : decode cX5_numberOf 6 = .ok (.iload_n 2, 1) := dk_28 (dk_at dksX5_numberOf_0 6 rfl rfl)
theorem dX5_numberOf_7 : decode cX5_numberOf 7 = .ok (.iaload, 1) := dk_46 (dk_at dksX5_numberOf_0 7 rfl rfl)
theorem dX5_numberOf_8 : decode cX5_numberOf 8 = .ok (.iload_n 1, 1) := dk_27 (dk_at dksX5_numberOf_0 8 rfl rfl)
theorem dX5_numberOf_9 : decode cX5_numberOf 9 = .ok (.if_icmp .eq 9, 3) := dk_159 0 9 (dk_at dksX5_numberOf_0 9 rfl rfl)
theorem dX5_numberOf_12 : decode cX5_numberOf 12 = .ok (.iinc 2 1, 3) := dk_132 2 1 (dk_at dksX5_numberOf_0 12 rfl rfl)
theorem dX5_numberOf_15 : decode cX5_numberOf 15 = .ok (.goto (-13), 3) := dk_167 255 243 (dk_at dksX5_numberOf_0 15 rfl rfl)
theorem dX5_numberOf_18 : decode cX5_numberOf 18 = .ok (.iload_n 2, 1) := dk_28 (dk_at dksX5_numberOf_0 18 rfl rfl)
theorem dX5_numberOf_19 : decode cX5_numberOf 19 = .ok (.ireturn, 1) := dk_172 (dk_at dksX5_numberOf_0 19 rfl rfl)
abbrev cX5_isWet : ByteArray := prog_13_method_38_code
def yX5_isWet : MethodName := ⟨RX5, "isWet", "(I)Z"⟩
def dkwX5_isWet_1 : List UInt8 := [180, 0, 155, 42, 27, 182, 0, 87, 133, 105, 148, 158, 0, 7, 4, 167, 0, 4, 3, 172]
abbrev dktX5_isWet_1 : List UInt8 := dkwX5_isWet_1 ++ []
def dkwX5_isWet_0 : List UInt8 := [42, 27, 182, 0, 133, 61, 28, 2, 160, 0, 5, 3, 172, 42, 28, 182, 0, 162, 42, 180, 0, 159, 42]
abbrev dktX5_isWet_0 : List UInt8 := dkwX5_isWet_0 ++ dktX5_isWet_1
theorem dksX5_isWet_0 : cX5_isWet.data.toList.drop 0 = dktX5_isWet_0 := by decide +kernel
theorem dksX5_isWet_1 : cX5_isWet.data.toList.drop 23 = dktX5_isWet_1 := dk_seg dksX5_isWet_0 23 rfl rfl
theorem dX5_isWet_0 : decode cX5_isWet 0 = .ok (.aload_n 0, 1) := dk_42 (dk_at dksX5_isWet_0 0 rfl rfl)
theorem dX5_isWet_1 : decode cX5_isWet 1 = .ok (.iload_n 1, 1) := dk_27 (dk_at dksX5_isWet_0 1 rfl rfl)
theorem dX5_isWet_2 : decode cX5_isWet 2 = .ok (.invokevirtual 133, 3) := dk_182 0 133 (dk_at dksX5_isWet_0 2 rfl rfl)
theorem dX5_isWet_5 : decode cX5_isWet 5 = .ok (.istore_n 2, 1) := dk_61 (dk_at dksX5_isWet_0 5 rfl rfl)
theorem dX5_isWet_6 : decode cX5_isWet 6 = .ok (.iload_n 2, 1) := dk_28 (dk_at dksX5_isWet_0 6 rfl rfl)
theorem dX5_isWet_7 : decode cX5_isWet 7 = .ok (.iconst (-1), 1) := dk_2 (dk_at dksX5_isWet_0 7 rfl rfl)
theorem dX5_isWet_8 : decode cX5_isWet 8 = .ok (.if_icmp .ne 5, 3) := dk_160 0 5 (dk_at dksX5_isWet_0 8 rfl rfl)
theorem dX5_isWet_11 : decode cX5_isWet 11 = .ok (.iconst 0, 1) := dk_3 (dk_at dksX5_isWet_0 11 rfl rfl)
theorem dX5_isWet_12 : decode cX5_isWet 12 = .ok (.ireturn, 1) := dk_172 (dk_at dksX5_isWet_0 12 rfl rfl)
theorem dX5_isWet_13 : decode cX5_isWet 13 = .ok (.aload_n 0, 1) := dk_42 (dk_at dksX5_isWet_0 13 rfl rfl)
theorem dX5_isWet_14 : decode cX5_isWet 14 = .ok (.iload_n 2, 1) := dk_28 (dk_at dksX5_isWet_0 14 rfl rfl)
theorem dX5_isWet_15 : decode cX5_isWet 15 = .ok (.invokevirtual 162, 3) := dk_182 0 162 (dk_at dksX5_isWet_0 15 rfl rfl)
theorem dX5_isWet_18 : decode cX5_isWet 18 = .ok (.aload_n 0, 1) := dk_42 (dk_at dksX5_isWet_0 18 rfl rfl)
theorem dX5_isWet_19 : decode cX5_isWet 19 = .ok (.getfield 159, 3) := dk_180 0 159 (dk_at dksX5_isWet_0 19 rfl rfl)
theorem dX5_isWet_22 : decode cX5_isWet 22 = .ok (.aload_n 0, 1) := dk_42 (dk_at dksX5_isWet_0 22 rfl rfl)
theorem dX5_isWet_23 : decode cX5_isWet 23 = .ok (.getfield 155, 3) := dk_180 0 155 (dk_at dksX5_isWet_1 0 rfl rfl)
theorem dX5_isWet_26 : decode cX5_isWet 26 = .ok (.aload_n 0, 1) := dk_42 (dk_at dksX5_isWet_1 3 rfl rfl)
theorem dX5_isWet_27 : decode cX5_isWet 27 = .ok (.iload_n 1, 1) := dk_27 (dk_at dksX5_isWet_1 4 rfl rfl)
theorem dX5_isWet_28 : decode cX5_isWet 28 = .ok (.invokevirtual 87, 3) := dk_182 0 87 (dk_at dksX5_isWet_1 5 rfl rfl)
theorem dX5_isWet_31 : decode cX5_isWet 31 = .ok (.i2l, 1) := dk_133 (dk_at dksX5_isWet_1 8 rfl rfl)
theorem dX5_isWet_32 : decode cX5_isWet 32 = .ok (.lmul, 1) := dk_105 (dk_at dksX5_isWet_1 9 rfl rfl)
theorem dX5_isWet_33 : decode cX5_isWet 33 = .ok (.lcmp, 1) := dk_148 (dk_at dksX5_isWet_1 10 rfl rfl)
theorem dX5_isWet_34 : decode cX5_isWet 34 = .ok (.ifCond .le 7, 3) := dk_158 0 7 (dk_at dksX5_isWet_1 11 rfl rfl)
theorem dX5_isWet_37 : decode cX5_isWet 37 = .ok (.iconst 1, 1) := dk_4 (dk_at dksX5_isWet_1 14 rfl rfl)
theorem dX5_isWet_38 : decode cX5_isWet 38 = .ok (.goto 4, 3) := dk_167 0 4 (dk_at dksX5_isWet_1 15 rfl rfl)
theorem dX5_isWet_41 : decode cX5_isWet 41 = .ok (.iconst 0, 1) := dk_3 (dk_at dksX5_isWet_1 18 rfl rfl)
theorem dX5_isWet_42 : decode cX5_isWet 42 = .ok (.ireturn, 1) := dk_172 (dk_at dksX5_isWet_1 19 rfl rfl)
abbrev cX5_levels : ByteArray := prog_13_method_37_code
def yX5_levels : MethodName := ⟨RX5, "levels", "(I)V"⟩
def dkwX5_levels_9 : List UInt8 := [177]
abbrev dktX5_levels_9 : List UInt8 := dkwX5_levels_9 ++ []
def dkwX5_levels_8 : List UInt8 := [105, 148, 157, 0, 7, 4, 167, 0, 4, 3, 54, 6, 132, 7, 1, 167, 255, 88, 42, 22, 4, 181, 0, 159]
abbrev dktX5_levels_8 : List UInt8 := dkwX5_levels_8 ++ dktX5_levels_9
def dkwX5_levels_7 : List UInt8 := [180, 0, 155, 9, 148, 158, 0, 28, 21, 8, 153, 0, 19, 22, 4, 42, 180, 0, 155, 21, 7, 133, 10, 97]
abbrev dktX5_levels_7 : List UInt8 := dkwX5_levels_7 ++ dktX5_levels_8
def dkwX5_levels_6 : List UInt8 := [21, 10, 153, 0, 9, 21, 7, 133, 167, 0, 4, 9, 97, 55, 4, 132, 9, 1, 167, 255, 149, 42]
abbrev dktX5_levels_6 : List UInt8 := dkwX5_levels_6 ++ dktX5_levels_7
def dkwX5_levels_5 : List UInt8 := [54, 8, 42, 89, 180, 0, 155, 21, 10, 153, 0, 7, 10, 167, 0, 4, 9, 97, 181, 0, 155, 22, 4]
abbrev dktX5_levels_5 : List UInt8 := dkwX5_levels_5 ++ dktX5_levels_6
def dkwX5_levels_4 : List UInt8 := [21, 9, 184, 0, 91, 153, 0, 18, 42, 21, 9, 182, 0, 87, 21, 7, 164, 0, 7, 4, 167, 0, 4, 3]
abbrev dktX5_levels_4 : List UInt8 := dkwX5_levels_4 ++ dktX5_levels_5
def dkwX5_levels_3 : List UInt8 := [21, 9, 182, 0, 87, 21, 7, 160, 0, 7, 4, 167, 0, 4, 3, 54, 10, 21, 8, 154, 0, 23, 32]
abbrev dktX5_levels_3 : List UInt8 := dkwX5_levels_3 ++ dktX5_levels_4
def dkwX5_levels_2 : List UInt8 := [54, 8, 3, 54, 9, 21, 9, 42, 182, 0, 61, 162, 0, 104, 32, 21, 9, 184, 0, 91, 153, 0, 18, 42]
abbrev dktX5_levels_2 : List UInt8 := dkwX5_levels_2 ++ dktX5_levels_3
def dkwX5_levels_1 : List UInt8 := [9, 181, 0, 155, 3, 54, 6, 3, 54, 7, 21, 7, 16, 100, 162, 0, 167, 21, 6, 154, 0, 162, 3]
abbrev dktX5_levels_1 : List UInt8 := dkwX5_levels_1 ++ dktX5_levels_2
def dkwX5_levels_0 : List UInt8 := [42, 180, 0, 7, 17, 0, 152, 27, 96, 47, 65, 42, 180, 0, 7, 17, 0, 224, 27, 96, 47, 55, 4, 42]
abbrev dktX5_levels_0 : List UInt8 := dkwX5_levels_0 ++ dktX5_levels_1
theorem dksX5_levels_0 : cX5_levels.data.toList.drop 0 = dktX5_levels_0 := by decide +kernel
theorem dksX5_levels_1 : cX5_levels.data.toList.drop 24 = dktX5_levels_1 := dk_seg dksX5_levels_0 24 rfl rfl
theorem dksX5_levels_2 : cX5_levels.data.toList.drop 47 = dktX5_levels_2 := dk_seg dksX5_levels_1 23 rfl rfl
theorem dksX5_levels_3 : cX5_levels.data.toList.drop 71 = dktX5_levels_3 := dk_seg dksX5_levels_2 24 rfl rfl
theorem dksX5_levels_4 : cX5_levels.data.toList.drop 94 = dktX5_levels_4 := dk_seg dksX5_levels_3 23 rfl rfl
theorem dksX5_levels_5 : cX5_levels.data.toList.drop 118 = dktX5_levels_5 := dk_seg dksX5_levels_4 24 rfl rfl
theorem dksX5_levels_6 : cX5_levels.data.toList.drop 141 = dktX5_levels_6 := dk_seg dksX5_levels_5 23 rfl rfl
theorem dksX5_levels_7 : cX5_levels.data.toList.drop 163 = dktX5_levels_7 := dk_seg dksX5_levels_6 22 rfl rfl
theorem dksX5_levels_8 : cX5_levels.data.toList.drop 187 = dktX5_levels_8 := dk_seg dksX5_levels_7 24 rfl rfl
theorem dksX5_levels_9 : cX5_levels.data.toList.drop 211 = dktX5_levels_9 := dk_seg dksX5_levels_8 24 rfl rfl
theorem dX5_levels_0 : decode cX5_levels 0 = .ok (.aload_n 0, 1) := dk_42 (dk_at dksX5_levels_0 0 rfl rfl)
theorem dX5_levels_1 : decode cX5_levels 1 = .ok (.getfield 7, 3) := dk_180 0 7 (dk_at dksX5_levels_0 1 rfl rfl)
theorem dX5_levels_4 : decode cX5_levels 4 = .ok (.sipush 152, 3) := dk_17 0 152 (dk_at dksX5_levels_0 4 rfl rfl)
theorem dX5_levels_7 : decode cX5_levels 7 = .ok (.iload_n 1, 1) := dk_27 (dk_at dksX5_levels_0 7 rfl rfl)
theorem dX5_levels_8 : decode cX5_levels 8 = .ok (.iadd, 1) := dk_96 (dk_at dksX5_levels_0 8 rfl rfl)
theorem dX5_levels_9 : decode cX5_levels 9 = .ok (.laload, 1) := dk_47 (dk_at dksX5_levels_0 9 rfl rfl)
theorem dX5_levels_10 : decode cX5_levels 10 = .ok (.lstore_n 2, 1) := dk_65 (dk_at dksX5_levels_0 10 rfl rfl)
theorem dX5_levels_11 : decode cX5_levels 11 = .ok (.aload_n 0, 1) := dk_42 (dk_at dksX5_levels_0 11 rfl rfl)
theorem dX5_levels_12 : decode cX5_levels 12 = .ok (.getfield 7, 3) := dk_180 0 7 (dk_at dksX5_levels_0 12 rfl rfl)
theorem dX5_levels_15 : decode cX5_levels 15 = .ok (.sipush 224, 3) := dk_17 0 224 (dk_at dksX5_levels_0 15 rfl rfl)
theorem dX5_levels_18 : decode cX5_levels 18 = .ok (.iload_n 1, 1) := dk_27 (dk_at dksX5_levels_0 18 rfl rfl)
theorem dX5_levels_19 : decode cX5_levels 19 = .ok (.iadd, 1) := dk_96 (dk_at dksX5_levels_0 19 rfl rfl)
theorem dX5_levels_20 : decode cX5_levels 20 = .ok (.laload, 1) := dk_47 (dk_at dksX5_levels_0 20 rfl rfl)
theorem dX5_levels_21 : decode cX5_levels 21 = .ok (.lstore 4, 2) := dk_55 4 (dk_at dksX5_levels_0 21 rfl rfl)
theorem dX5_levels_23 : decode cX5_levels 23 = .ok (.aload_n 0, 1) := dk_42 (dk_at dksX5_levels_0 23 rfl rfl)
theorem dX5_levels_24 : decode cX5_levels 24 = .ok (.lconst 0, 1) := dk_9 (dk_at dksX5_levels_1 0 rfl rfl)
theorem dX5_levels_25 : decode cX5_levels 25 = .ok (.putfield 155, 3) := dk_181 0 155 (dk_at dksX5_levels_1 1 rfl rfl)
theorem dX5_levels_28 : decode cX5_levels 28 = .ok (.iconst 0, 1) := dk_3 (dk_at dksX5_levels_1 4 rfl rfl)
theorem dX5_levels_29 : decode cX5_levels 29 = .ok (.istore 6, 2) := dk_54 6 (dk_at dksX5_levels_1 5 rfl rfl)
theorem dX5_levels_31 : decode cX5_levels 31 = .ok (.iconst 0, 1) := dk_3 (dk_at dksX5_levels_1 7 rfl rfl)
theorem dX5_levels_32 : decode cX5_levels 32 = .ok (.istore 7, 2) := dk_54 7 (dk_at dksX5_levels_1 8 rfl rfl)
theorem dX5_levels_34 : decode cX5_levels 34 = .ok (.iload 7, 2) := dk_21 7 (dk_at dksX5_levels_1 10 rfl rfl)
theorem dX5_levels_36 : decode cX5_levels 36 = .ok (.bipush 100, 2) := dk_16 100 (dk_at dksX5_levels_1 12 rfl rfl)
theorem dX5_levels_38 : decode cX5_levels 38 = .ok (.if_icmp .ge 167, 3) := dk_162 0 167 (dk_at dksX5_levels_1 14 rfl rfl)
theorem dX5_levels_41 : decode cX5_levels 41 = .ok (.iload 6, 2) := dk_21 6 (dk_at dksX5_levels_1 17 rfl rfl)
theorem dX5_levels_43 : decode cX5_levels 43 = .ok (.ifCond .ne 162, 3) := dk_154 0 162 (dk_at dksX5_levels_1 19 rfl rfl)
theorem dX5_levels_46 : decode cX5_levels 46 = .ok (.iconst 0, 1) := dk_3 (dk_at dksX5_levels_1 22 rfl rfl)
theorem dX5_levels_47 : decode cX5_levels 47 = .ok (.istore 8, 2) := dk_54 8 (dk_at dksX5_levels_2 0 rfl rfl)
theorem dX5_levels_49 : decode cX5_levels 49 = .ok (.iconst 0, 1) := dk_3 (dk_at dksX5_levels_2 2 rfl rfl)
theorem dX5_levels_50 : decode cX5_levels 50 = .ok (.istore 9, 2) := dk_54 9 (dk_at dksX5_levels_2 3 rfl rfl)
theorem dX5_levels_52 : decode cX5_levels 52 = .ok (.iload 9, 2) := dk_21 9 (dk_at dksX5_levels_2 5 rfl rfl)
theorem dX5_levels_54 : decode cX5_levels 54 = .ok (.aload_n 0, 1) := dk_42 (dk_at dksX5_levels_2 7 rfl rfl)
theorem dX5_levels_55 : decode cX5_levels 55 = .ok (.invokevirtual 61, 3) := dk_182 0 61 (dk_at dksX5_levels_2 8 rfl rfl)
theorem dX5_levels_58 : decode cX5_levels 58 = .ok (.if_icmp .ge 104, 3) := dk_162 0 104 (dk_at dksX5_levels_2 11 rfl rfl)
theorem dX5_levels_61 : decode cX5_levels 61 = .ok (.lload_n 2, 1) := dk_32 (dk_at dksX5_levels_2 14 rfl rfl)
theorem dX5_levels_62 : decode cX5_levels 62 = .ok (.iload 9, 2) := dk_21 9 (dk_at dksX5_levels_2 15 rfl rfl)
theorem dX5_levels_64 : decode cX5_levels 64 = .ok (.invokestatic 91, 3) := dk_184 0 91 (dk_at dksX5_levels_2 17 rfl rfl)
theorem dX5_levels_67 : decode cX5_levels 67 = .ok (.ifCond .eq 18, 3) := dk_153 0 18 (dk_at dksX5_levels_2 20 rfl rfl)
theorem dX5_levels_70 : decode cX5_levels 70 = .ok (.aload_n 0, 1) := dk_42 (dk_at dksX5_levels_2 23 rfl rfl)
theorem dX5_levels_71 : decode cX5_levels 71 = .ok (.iload 9, 2) := dk_21 9 (dk_at dksX5_levels_3 0 rfl rfl)
theorem dX5_levels_73 : decode cX5_levels 73 = .ok (.invokevirtual 87, 3) := dk_182 0 87 (dk_at dksX5_levels_3 2 rfl rfl)
theorem dX5_levels_76 : decode cX5_levels 76 = .ok (.iload 7, 2) := dk_21 7 (dk_at dksX5_levels_3 5 rfl rfl)
theorem dX5_levels_78 : decode cX5_levels 78 = .ok (.if_icmp .ne 7, 3) := dk_160 0 7 (dk_at dksX5_levels_3 7 rfl rfl)
theorem dX5_levels_81 : decode cX5_levels 81 = .ok (.iconst 1, 1) := dk_4 (dk_at dksX5_levels_3 10 rfl rfl)
theorem dX5_levels_82 : decode cX5_levels 82 = .ok (.goto 4, 3) := dk_167 0 4 (dk_at dksX5_levels_3 11 rfl rfl)
theorem dX5_levels_85 : decode cX5_levels 85 = .ok (.iconst 0, 1) := dk_3 (dk_at dksX5_levels_3 14 rfl rfl)
theorem dX5_levels_86 : decode cX5_levels 86 = .ok (.istore 10, 2) := dk_54 10 (dk_at dksX5_levels_3 15 rfl rfl)
theorem dX5_levels_88 : decode cX5_levels 88 = .ok (.iload 8, 2) := dk_21 8 (dk_at dksX5_levels_3 17 rfl rfl)
theorem dX5_levels_90 : decode cX5_levels 90 = .ok (.ifCond .ne 23, 3) := dk_154 0 23 (dk_at dksX5_levels_3 19 rfl rfl)
theorem dX5_levels_93 : decode cX5_levels 93 = .ok (.lload_n 2, 1) := dk_32 (dk_at dksX5_levels_3 22 rfl rfl)
theorem dX5_levels_94 : decode cX5_levels 94 = .ok (.iload 9, 2) := dk_21 9 (dk_at dksX5_levels_4 0 rfl rfl)
theorem dX5_levels_96 : decode cX5_levels 96 = .ok (.invokestatic 91, 3) := dk_184 0 91 (dk_at dksX5_levels_4 2 rfl rfl)
theorem dX5_levels_99 : decode cX5_levels 99 = .ok (.ifCond .eq 18, 3) := dk_153 0 18 (dk_at dksX5_levels_4 5 rfl rfl)
theorem dX5_levels_102 : decode cX5_levels 102 = .ok (.aload_n 0, 1) := dk_42 (dk_at dksX5_levels_4 8 rfl rfl)
theorem dX5_levels_103 : decode cX5_levels 103 = .ok (.iload 9, 2) := dk_21 9 (dk_at dksX5_levels_4 9 rfl rfl)
theorem dX5_levels_105 : decode cX5_levels 105 = .ok (.invokevirtual 87, 3) := dk_182 0 87 (dk_at dksX5_levels_4 11 rfl rfl)
theorem dX5_levels_108 : decode cX5_levels 108 = .ok (.iload 7, 2) := dk_21 7 (dk_at dksX5_levels_4 14 rfl rfl)
theorem dX5_levels_110 : decode cX5_levels 110 = .ok (.if_icmp .le 7, 3) := dk_164 0 7 (dk_at dksX5_levels_4 16 rfl rfl)
theorem dX5_levels_113 : decode cX5_levels 113 = .ok (.iconst 1, 1) := dk_4 (dk_at dksX5_levels_4 19 rfl rfl)
theorem dX5_levels_114 : decode cX5_levels 114 = .ok (.goto 4, 3) := dk_167 0 4 (dk_at dksX5_levels_4 20 rfl rfl)
theorem dX5_levels_117 : decode cX5_levels 117 = .ok (.iconst 0, 1) := dk_3 (dk_at dksX5_levels_4 23 rfl rfl)
theorem dX5_levels_118 : decode cX5_levels 118 = .ok (.istore 8, 2) := dk_54 8 (dk_at dksX5_levels_5 0 rfl rfl)
theorem dX5_levels_120 : decode cX5_levels 120 = .ok (.aload_n 0, 1) := dk_42 (dk_at dksX5_levels_5 2 rfl rfl)
theorem dX5_levels_121 : decode cX5_levels 121 = .ok (.dup, 1) := dk_89 (dk_at dksX5_levels_5 3 rfl rfl)
theorem dX5_levels_122 : decode cX5_levels 122 = .ok (.getfield 155, 3) := dk_180 0 155 (dk_at dksX5_levels_5 4 rfl rfl)
theorem dX5_levels_125 : decode cX5_levels 125 = .ok (.iload 10, 2) := dk_21 10 (dk_at dksX5_levels_5 7 rfl rfl)
theorem dX5_levels_127 : decode cX5_levels 127 = .ok (.ifCond .eq 7, 3) := dk_153 0 7 (dk_at dksX5_levels_5 9 rfl rfl)
theorem dX5_levels_130 : decode cX5_levels 130 = .ok (.lconst 1, 1) := dk_10 (dk_at dksX5_levels_5 12 rfl rfl)
theorem dX5_levels_131 : decode cX5_levels 131 = .ok (.goto 4, 3) := dk_167 0 4 (dk_at dksX5_levels_5 13 rfl rfl)
theorem dX5_levels_134 : decode cX5_levels 134 = .ok (.lconst 0, 1) := dk_9 (dk_at dksX5_levels_5 16 rfl rfl)
theorem dX5_levels_135 : decode cX5_levels 135 = .ok (.ladd, 1) := dk_97 (dk_at dksX5_levels_5 17 rfl rfl)
theorem dX5_levels_136 : decode cX5_levels 136 = .ok (.putfield 155, 3) := dk_181 0 155 (dk_at dksX5_levels_5 18 rfl rfl)
theorem dX5_levels_139 : decode cX5_levels 139 = .ok (.lload 4, 2) := dk_22 4 (dk_at dksX5_levels_5 21 rfl rfl)
theorem dX5_levels_141 : decode cX5_levels 141 = .ok (.iload 10, 2) := dk_21 10 (dk_at dksX5_levels_6 0 rfl rfl)
theorem dX5_levels_143 : decode cX5_levels 143 = .ok (.ifCond .eq 9, 3) := dk_153 0 9 (dk_at dksX5_levels_6 2 rfl rfl)
theorem dX5_levels_146 : decode cX5_levels 146 = .ok (.iload 7, 2) := dk_21 7 (dk_at dksX5_levels_6 5 rfl rfl)
theorem dX5_levels_148 : decode cX5_levels 148 = .ok (.i2l, 1) := dk_133 (dk_at dksX5_levels_6 7 rfl rfl)
theorem dX5_levels_149 : decode cX5_levels 149 = .ok (.goto 4, 3) := dk_167 0 4 (dk_at dksX5_levels_6 8 rfl rfl)
theorem dX5_levels_152 : decode cX5_levels 152 = .ok (.lconst 0, 1) := dk_9 (dk_at dksX5_levels_6 11 rfl rfl)
theorem dX5_levels_153 : decode cX5_levels 153 = .ok (.ladd, 1) := dk_97 (dk_at dksX5_levels_6 12 rfl rfl)
theorem dX5_levels_154 : decode cX5_levels 154 = .ok (.lstore 4, 2) := dk_55 4 (dk_at dksX5_levels_6 13 rfl rfl)
theorem dX5_levels_156 : decode cX5_levels 156 = .ok (.iinc 9 1, 3) := dk_132 9 1 (dk_at dksX5_levels_6 15 rfl rfl)
theorem dX5_levels_159 : decode cX5_levels 159 = .ok (.goto (-107), 3) := dk_167 255 149 (dk_at dksX5_levels_6 18 rfl rfl)
theorem dX5_levels_162 : decode cX5_levels 162 = .ok (.aload_n 0, 1) := dk_42 (dk_at dksX5_levels_6 21 rfl rfl)
theorem dX5_levels_163 : decode cX5_levels 163 = .ok (.getfield 155, 3) := dk_180 0 155 (dk_at dksX5_levels_7 0 rfl rfl)
theorem dX5_levels_166 : decode cX5_levels 166 = .ok (.lconst 0, 1) := dk_9 (dk_at dksX5_levels_7 3 rfl rfl)
theorem dX5_levels_167 : decode cX5_levels 167 = .ok (.lcmp, 1) := dk_148 (dk_at dksX5_levels_7 4 rfl rfl)
theorem dX5_levels_168 : decode cX5_levels 168 = .ok (.ifCond .le 28, 3) := dk_158 0 28 (dk_at dksX5_levels_7 5 rfl rfl)
theorem dX5_levels_171 : decode cX5_levels 171 = .ok (.iload 8, 2) := dk_21 8 (dk_at dksX5_levels_7 8 rfl rfl)
theorem dX5_levels_173 : decode cX5_levels 173 = .ok (.ifCond .eq 19, 3) := dk_153 0 19 (dk_at dksX5_levels_7 10 rfl rfl)
theorem dX5_levels_176 : decode cX5_levels 176 = .ok (.lload 4, 2) := dk_22 4 (dk_at dksX5_levels_7 13 rfl rfl)
theorem dX5_levels_178 : decode cX5_levels 178 = .ok (.aload_n 0, 1) := dk_42 (dk_at dksX5_levels_7 15 rfl rfl)
theorem dX5_levels_179 : decode cX5_levels 179 = .ok (.getfield 155, 3) := dk_180 0 155 (dk_at dksX5_levels_7 16 rfl rfl)
theorem dX5_levels_182 : decode cX5_levels 182 = .ok (.iload 7, 2) := dk_21 7 (dk_at dksX5_levels_7 19 rfl rfl)
theorem dX5_levels_184 : decode cX5_levels 184 = .ok (.i2l, 1) := dk_133 (dk_at dksX5_levels_7 21 rfl rfl)
theorem dX5_levels_185 : decode cX5_levels 185 = .ok (.lconst 1, 1) := dk_10 (dk_at dksX5_levels_7 22 rfl rfl)
theorem dX5_levels_186 : decode cX5_levels 186 = .ok (.ladd, 1) := dk_97 (dk_at dksX5_levels_7 23 rfl rfl)
theorem dX5_levels_187 : decode cX5_levels 187 = .ok (.lmul, 1) := dk_105 (dk_at dksX5_levels_8 0 rfl rfl)
theorem dX5_levels_188 : decode cX5_levels 188 = .ok (.lcmp, 1) := dk_148 (dk_at dksX5_levels_8 1 rfl rfl)
theorem dX5_levels_189 : decode cX5_levels 189 = .ok (.ifCond .gt 7, 3) := dk_157 0 7 (dk_at dksX5_levels_8 2 rfl rfl)
theorem dX5_levels_192 : decode cX5_levels 192 = .ok (.iconst 1, 1) := dk_4 (dk_at dksX5_levels_8 5 rfl rfl)
theorem dX5_levels_193 : decode cX5_levels 193 = .ok (.goto 4, 3) := dk_167 0 4 (dk_at dksX5_levels_8 6 rfl rfl)
theorem dX5_levels_196 : decode cX5_levels 196 = .ok (.iconst 0, 1) := dk_3 (dk_at dksX5_levels_8 9 rfl rfl)
theorem dX5_levels_197 : decode cX5_levels 197 = .ok (.istore 6, 2) := dk_54 6 (dk_at dksX5_levels_8 10 rfl rfl)
theorem dX5_levels_199 : decode cX5_levels 199 = .ok (.iinc 7 1, 3) := dk_132 7 1 (dk_at dksX5_levels_8 12 rfl rfl)
theorem dX5_levels_202 : decode cX5_levels 202 = .ok (.goto (-168), 3) := dk_167 255 88 (dk_at dksX5_levels_8 15 rfl rfl)
theorem dX5_levels_205 : decode cX5_levels 205 = .ok (.aload_n 0, 1) := dk_42 (dk_at dksX5_levels_8 18 rfl rfl)
theorem dX5_levels_206 : decode cX5_levels 206 = .ok (.lload 4, 2) := dk_22 4 (dk_at dksX5_levels_8 19 rfl rfl)
theorem dX5_levels_208 : decode cX5_levels 208 = .ok (.putfield 159, 3) := dk_181 0 159 (dk_at dksX5_levels_8 21 rfl rfl)
theorem dX5_levels_211 : decode cX5_levels 211 = .ok (.return_, 1) := dk_177 (dk_at dksX5_levels_9 0 rfl rfl)
abbrev cX5_between : ByteArray := prog_13_method_53_code
def yX5_between : MethodName := ⟨RX5, "between", "(IIZ)I"⟩
def dkwX5_between_1 : List UInt8 := [182, 0, 84, 167, 0, 15, 42, 180, 0, 7, 42, 27, 28, 182, 0, 81, 47, 136, 172]
abbrev dktX5_between_1 : List UInt8 := dkwX5_between_1 ++ []
def dkwX5_between_0 : List UInt8 := [42, 42, 27, 28, 182, 0, 198, 4, 4, 182, 0, 183, 154, 0, 5, 3, 172, 29, 153, 0, 12, 42, 27, 28]
abbrev dktX5_between_0 : List UInt8 := dkwX5_between_0 ++ dktX5_between_1
theorem dksX5_between_0 : cX5_between.data.toList.drop 0 = dktX5_between_0 := by decide +kernel
theorem dksX5_between_1 : cX5_between.data.toList.drop 24 = dktX5_between_1 := dk_seg dksX5_between_0 24 rfl rfl
theorem dX5_between_0 : decode cX5_between 0 = .ok (.aload_n 0, 1) := dk_42 (dk_at dksX5_between_0 0 rfl rfl)
theorem dX5_between_1 : decode cX5_between 1 = .ok (.aload_n 0, 1) := dk_42 (dk_at dksX5_between_0 1 rfl rfl)
theorem dX5_between_2 : decode cX5_between 2 = .ok (.iload_n 1, 1) := dk_27 (dk_at dksX5_between_0 2 rfl rfl)
theorem dX5_between_3 : decode cX5_between 3 = .ok (.iload_n 2, 1) := dk_28 (dk_at dksX5_between_0 3 rfl rfl)
theorem dX5_between_4 : decode cX5_between 4 = .ok (.invokevirtual 198, 3) := dk_182 0 198 (dk_at dksX5_between_0 4 rfl rfl)
theorem dX5_between_7 : decode cX5_between 7 = .ok (.iconst 1, 1) := dk_4 (dk_at dksX5_between_0 7 rfl rfl)
theorem dX5_between_8 : decode cX5_between 8 = .ok (.iconst 1, 1) := dk_4 (dk_at dksX5_between_0 8 rfl rfl)
theorem dX5_between_9 : decode cX5_between 9 = .ok (.invokevirtual 183, 3) := dk_182 0 183 (dk_at dksX5_between_0 9 rfl rfl)
theorem dX5_between_12 : decode cX5_between 12 = .ok (.ifCond .ne 5, 3) := dk_154 0 5 (dk_at dksX5_between_0 12 rfl rfl)
theorem dX5_between_15 : decode cX5_between 15 = .ok (.iconst 0, 1) := dk_3 (dk_at dksX5_between_0 15 rfl rfl)
theorem dX5_between_16 : decode cX5_between 16 = .ok (.ireturn, 1) := dk_172 (dk_at dksX5_between_0 16 rfl rfl)
theorem dX5_between_17 : decode cX5_between 17 = .ok (.iload_n 3, 1) := dk_29 (dk_at dksX5_between_0 17 rfl rfl)
theorem dX5_between_18 : decode cX5_between 18 = .ok (.ifCond .eq 12, 3) := dk_153 0 12 (dk_at dksX5_between_0 18 rfl rfl)
theorem dX5_between_21 : decode cX5_between 21 = .ok (.aload_n 0, 1) := dk_42 (dk_at dksX5_between_0 21 rfl rfl)
theorem dX5_between_22 : decode cX5_between 22 = .ok (.iload_n 1, 1) := dk_27 (dk_at dksX5_between_0 22 rfl rfl)
theorem dX5_between_23 : decode cX5_between 23 = .ok (.iload_n 2, 1) := dk_28 (dk_at dksX5_between_0 23 rfl rfl)
theorem dX5_between_24 : decode cX5_between 24 = .ok (.invokevirtual 84, 3) := dk_182 0 84 (dk_at dksX5_between_1 0 rfl rfl)
theorem dX5_between_27 : decode cX5_between 27 = .ok (.goto 15, 3) := dk_167 0 15 (dk_at dksX5_between_1 3 rfl rfl)
theorem dX5_between_30 : decode cX5_between 30 = .ok (.aload_n 0, 1) := dk_42 (dk_at dksX5_between_1 6 rfl rfl)
theorem dX5_between_31 : decode cX5_between 31 = .ok (.getfield 7, 3) := dk_180 0 7 (dk_at dksX5_between_1 7 rfl rfl)
theorem dX5_between_34 : decode cX5_between 34 = .ok (.aload_n 0, 1) := dk_42 (dk_at dksX5_between_1 10 rfl rfl)
theorem dX5_between_35 : decode cX5_between 35 = .ok (.iload_n 1, 1) := dk_27 (dk_at dksX5_between_1 11 rfl rfl)
theorem dX5_between_36 : decode cX5_between 36 = .ok (.iload_n 2, 1) := dk_28 (dk_at dksX5_between_1 12 rfl rfl)
theorem dX5_between_37 : decode cX5_between 37 = .ok (.invokevirtual 81, 3) := dk_182 0 81 (dk_at dksX5_between_1 13 rfl rfl)
theorem dX5_between_40 : decode cX5_between 40 = .ok (.laload, 1) := dk_47 (dk_at dksX5_between_1 16 rfl rfl)
theorem dX5_between_41 : decode cX5_between 41 = .ok (.l2i, 1) := dk_136 (dk_at dksX5_between_1 17 rfl rfl)
theorem dX5_between_42 : decode cX5_between 42 = .ok (.ireturn, 1) := dk_172 (dk_at dksX5_between_1 18 rfl rfl)
abbrev cX5_count : ByteArray := prog_13_method_56_code
def yX5_count : MethodName := ⟨RX5, "count", "(I)I"⟩
def dkwX5_count_1 : List UInt8 := [167, 0, 4, 3, 172]
abbrev dktX5_count_1 : List UInt8 := dkwX5_count_1 ++ []
def dkwX5_count_0 : List UInt8 := [42, 27, 133, 9, 20, 0, 181, 184, 0, 65, 4, 4, 182, 0, 183, 153, 0, 11, 42, 27, 182, 0, 225]
abbrev dktX5_count_0 : List UInt8 := dkwX5_count_0 ++ dktX5_count_1
theorem dksX5_count_0 : cX5_count.data.toList.drop 0 = dktX5_count_0 := by decide +kernel
theorem dksX5_count_1 : cX5_count.data.toList.drop 23 = dktX5_count_1 := dk_seg dksX5_count_0 23 rfl rfl
theorem dX5_count_0 : decode cX5_count 0 = .ok (.aload_n 0, 1) := dk_42 (dk_at dksX5_count_0 0 rfl rfl)
theorem dX5_count_1 : decode cX5_count 1 = .ok (.iload_n 1, 1) := dk_27 (dk_at dksX5_count_0 1 rfl rfl)
theorem dX5_count_2 : decode cX5_count 2 = .ok (.i2l, 1) := dk_133 (dk_at dksX5_count_0 2 rfl rfl)
theorem dX5_count_3 : decode cX5_count 3 = .ok (.lconst 0, 1) := dk_9 (dk_at dksX5_count_0 3 rfl rfl)
theorem dX5_count_4 : decode cX5_count 4 = .ok (.ldc2_w 181, 3) := dk_20 0 181 (dk_at dksX5_count_0 4 rfl rfl)
theorem dX5_count_7 : decode cX5_count 7 = .ok (.invokestatic 65, 3) := dk_184 0 65 (dk_at dksX5_count_0 7 rfl rfl)
theorem dX5_count_10 : decode cX5_count 10 = .ok (.iconst 1, 1) := dk_4 (dk_at dksX5_count_0 10 rfl rfl)
theorem dX5_count_11 : decode cX5_count 11 = .ok (.iconst 1, 1) := dk_4 (dk_at dksX5_count_0 11 rfl rfl)
theorem dX5_count_12 : decode cX5_count 12 = .ok (.invokevirtual 183, 3) := dk_182 0 183 (dk_at dksX5_count_0 12 rfl rfl)
theorem dX5_count_15 : decode cX5_count 15 = .ok (.ifCond .eq 11, 3) := dk_153 0 11 (dk_at dksX5_count_0 15 rfl rfl)
theorem dX5_count_18 : decode cX5_count 18 = .ok (.aload_n 0, 1) := dk_42 (dk_at dksX5_count_0 18 rfl rfl)
theorem dX5_count_19 : decode cX5_count 19 = .ok (.iload_n 1, 1) := dk_27 (dk_at dksX5_count_0 19 rfl rfl)
theorem dX5_count_20 : decode cX5_count 20 = .ok (.invokevirtual 225, 3) := dk_182 0 225 (dk_at dksX5_count_0 20 rfl rfl)
theorem dX5_count_23 : decode cX5_count 23 = .ok (.goto 4, 3) := dk_167 0 4 (dk_at dksX5_count_1 0 rfl rfl)
theorem dX5_count_26 : decode cX5_count 26 = .ok (.iconst 0, 1) := dk_3 (dk_at dksX5_count_1 3 rfl rfl)
theorem dX5_count_27 : decode cX5_count 27 = .ok (.ireturn, 1) := dk_172 (dk_at dksX5_count_1 4 rfl rfl)
abbrev cX5_countOf : ByteArray := prog_13_method_55_code
def yX5_countOf : MethodName := ⟨RX5, "countOf", "(I)I"⟩
def dkwX5_countOf_5 : List UInt8 := [182, 0, 136, 153, 0, 7, 4, 167, 0, 4, 3, 96, 61, 132, 3, 1, 167, 255, 216, 28, 172]
abbrev dktX5_countOf_5 : List UInt8 := dkwX5_countOf_5 ++ []
def dkwX5_countOf_4 : List UInt8 := [29, 16, 72, 162, 0, 40, 28, 42, 180, 0, 7, 17, 1, 184, 29, 96, 47, 10, 148, 154, 0, 15, 42, 29]
abbrev dktX5_countOf_4 : List UInt8 := dkwX5_countOf_4 ++ dktX5_countOf_5
def dkwX5_countOf_3 : List UInt8 := [172, 42, 182, 0, 152, 42, 180, 0, 149, 172, 42, 182, 0, 219, 172, 42, 182, 0, 222, 172, 3, 61, 3, 62]
abbrev dktX5_countOf_3 : List UInt8 := dkwX5_countOf_3 ++ dktX5_countOf_4
def dkwX5_countOf_2 : List UInt8 := [42, 180, 0, 7, 3, 47, 136, 172, 42, 180, 0, 7, 4, 47, 136, 172, 42, 180, 0, 7, 16, 6, 47, 136]
abbrev dktX5_countOf_2 : List UInt8 := dkwX5_countOf_2 ++ dktX5_countOf_3
def dkwX5_countOf_1 : List UInt8 := [170, 0, 0, 0, 0, 0, 83, 0, 0, 0, 0, 0, 0, 0, 5, 0, 0, 0, 39, 0, 0, 0, 47, 0, 0, 0, 55, 0, 0, 0, 64, 0, 0, 0, 73, 0, 0, 0, 78]
abbrev dktX5_countOf_1 : List UInt8 := dkwX5_countOf_1 ++ dktX5_countOf_2
def dkwX5_countOf_0 : List UInt8 := [27]
abbrev dktX5_countOf_0 : List UInt8 := dkwX5_countOf_0 ++ dktX5_countOf_1
theorem dksX5_countOf_0 : cX5_countOf.data.toList.drop 0 = dktX5_countOf_0 := by decide +kernel
theorem dksX5_countOf_1 : cX5_countOf.data.toList.drop 1 = dktX5_countOf_1 := dk_seg dksX5_countOf_0 1 rfl rfl
theorem dksX5_countOf_2 : cX5_countOf.data.toList.drop 40 = dktX5_countOf_2 := dk_seg dksX5_countOf_1 39 rfl rfl
theorem dksX5_countOf_3 : cX5_countOf.data.toList.drop 64 = dktX5_countOf_3 := dk_seg dksX5_countOf_2 24 rfl rfl
theorem dksX5_countOf_4 : cX5_countOf.data.toList.drop 88 = dktX5_countOf_4 := dk_seg dksX5_countOf_3 24 rfl rfl
theorem dksX5_countOf_5 : cX5_countOf.data.toList.drop 112 = dktX5_countOf_5 := dk_seg dksX5_countOf_4 24 rfl rfl
theorem dX5_countOf_0 : decode cX5_countOf 0 = .ok (.iload_n 1, 1) := dk_27 (dk_at dksX5_countOf_0 0 rfl rfl)
theorem dX5_countOf_1 : decode cX5_countOf 1 = .ok (.tableswitch 83 0 5 #[39, 47, 55, 64, 73, 78], 39) := by decide +kernel
theorem dX5_countOf_40 : decode cX5_countOf 40 = .ok (.aload_n 0, 1) := dk_42 (dk_at dksX5_countOf_2 0 rfl rfl)
theorem dX5_countOf_41 : decode cX5_countOf 41 = .ok (.getfield 7, 3) := dk_180 0 7 (dk_at dksX5_countOf_2 1 rfl rfl)
theorem dX5_countOf_44 : decode cX5_countOf 44 = .ok (.iconst 0, 1) := dk_3 (dk_at dksX5_countOf_2 4 rfl rfl)
theorem dX5_countOf_45 : decode cX5_countOf 45 = .ok (.laload, 1) := dk_47 (dk_at dksX5_countOf_2 5 rfl rfl)
theorem dX5_countOf_46 : decode cX5_countOf 46 = .ok (.l2i, 1) := dk_136 (dk_at dksX5_countOf_2 6 rfl rfl)
theorem dX5_countOf_47 : decode cX5_countOf 47 = .ok (.ireturn, 1) := dk_172 (dk_at dksX5_countOf_2 7 rfl rfl)
theorem dX5_countOf_48 : decode cX5_countOf 48 = .ok (.aload_n 0, 1) := dk_42 (dk_at dksX5_countOf_2 8 rfl rfl)
theorem dX5_countOf_49 : decode cX5_countOf 49 = .ok (.getfield 7, 3) := dk_180 0 7 (dk_at dksX5_countOf_2 9 rfl rfl)
theorem dX5_countOf_52 : decode cX5_countOf 52 = .ok (.iconst 1, 1) := dk_4 (dk_at dksX5_countOf_2 12 rfl rfl)
theorem dX5_countOf_53 : decode cX5_countOf 53 = .ok (.laload, 1) := dk_47 (dk_at dksX5_countOf_2 13 rfl rfl)
theorem dX5_countOf_54 : decode cX5_countOf 54 = .ok (.l2i, 1) := dk_136 (dk_at dksX5_countOf_2 14 rfl rfl)
theorem dX5_countOf_55 : decode cX5_countOf 55 = .ok (.ireturn, 1) := dk_172 (dk_at dksX5_countOf_2 15 rfl rfl)
theorem dX5_countOf_56 : decode cX5_countOf 56 = .ok (.aload_n 0, 1) := dk_42 (dk_at dksX5_countOf_2 16 rfl rfl)
theorem dX5_countOf_57 : decode cX5_countOf 57 = .ok (.getfield 7, 3) := dk_180 0 7 (dk_at dksX5_countOf_2 17 rfl rfl)
theorem dX5_countOf_60 : decode cX5_countOf 60 = .ok (.bipush 6, 2) := dk_16 6 (dk_at dksX5_countOf_2 20 rfl rfl)
theorem dX5_countOf_62 : decode cX5_countOf 62 = .ok (.laload, 1) := dk_47 (dk_at dksX5_countOf_2 22 rfl rfl)
theorem dX5_countOf_63 : decode cX5_countOf 63 = .ok (.l2i, 1) := dk_136 (dk_at dksX5_countOf_2 23 rfl rfl)
theorem dX5_countOf_64 : decode cX5_countOf 64 = .ok (.ireturn, 1) := dk_172 (dk_at dksX5_countOf_3 0 rfl rfl)
theorem dX5_countOf_65 : decode cX5_countOf 65 = .ok (.aload_n 0, 1) := dk_42 (dk_at dksX5_countOf_3 1 rfl rfl)
theorem dX5_countOf_66 : decode cX5_countOf 66 = .ok (.invokevirtual 152, 3) := dk_182 0 152 (dk_at dksX5_countOf_3 2 rfl rfl)
theorem dX5_countOf_69 : decode cX5_countOf 69 = .ok (.aload_n 0, 1) := dk_42 (dk_at dksX5_countOf_3 5 rfl rfl)
theorem dX5_countOf_70 : decode cX5_countOf 70 = .ok (.getfield 149, 3) := dk_180 0 149 (dk_at dksX5_countOf_3 6 rfl rfl)
theorem dX5_countOf_73 : decode cX5_countOf 73 = .ok (.ireturn, 1) := dk_172 (dk_at dksX5_countOf_3 9 rfl rfl)
theorem dX5_countOf_74 : decode cX5_countOf 74 = .ok (.aload_n 0, 1) := dk_42 (dk_at dksX5_countOf_3 10 rfl rfl)
theorem dX5_countOf_75 : decode cX5_countOf 75 = .ok (.invokevirtual 219, 3) := dk_182 0 219 (dk_at dksX5_countOf_3 11 rfl rfl)
theorem dX5_countOf_78 : decode cX5_countOf 78 = .ok (.ireturn, 1) := dk_172 (dk_at dksX5_countOf_3 14 rfl rfl)
theorem dX5_countOf_79 : decode cX5_countOf 79 = .ok (.aload_n 0, 1) := dk_42 (dk_at dksX5_countOf_3 15 rfl rfl)
theorem dX5_countOf_80 : decode cX5_countOf 80 = .ok (.invokevirtual 222, 3) := dk_182 0 222 (dk_at dksX5_countOf_3 16 rfl rfl)
theorem dX5_countOf_83 : decode cX5_countOf 83 = .ok (.ireturn, 1) := dk_172 (dk_at dksX5_countOf_3 19 rfl rfl)
theorem dX5_countOf_84 : decode cX5_countOf 84 = .ok (.iconst 0, 1) := dk_3 (dk_at dksX5_countOf_3 20 rfl rfl)
theorem dX5_countOf_85 : decode cX5_countOf 85 = .ok (.istore_n 2, 1) := dk_61 (dk_at dksX5_countOf_3 21 rfl rfl)
theorem dX5_countOf_86 : decode cX5_countOf 86 = .ok (.iconst 0, 1) := dk_3 (dk_at dksX5_countOf_3 22 rfl rfl)
theorem dX5_countOf_87 : decode cX5_countOf 87 = .ok (.istore_n 3, 1) := dk_62 (dk_at dksX5_countOf_3 23 rfl rfl)
theorem dX5_countOf_88 : decode cX5_countOf 88 = .ok (.iload_n 3, 1) := dk_29 (dk_at dksX5_countOf_4 0 rfl rfl)
theorem dX5_countOf_89 : decode cX5_countOf 89 = .ok (.bipush 72, 2) := dk_16 72 (dk_at dksX5_countOf_4 1 rfl rfl)
theorem dX5_countOf_91 : decode cX5_countOf 91 = .ok (.if_icmp .ge 40, 3) := dk_162 0 40 (dk_at dksX5_countOf_4 3 rfl rfl)
theorem dX5_countOf_94 : decode cX5_countOf 94 = .ok (.iload_n 2, 1) := dk_28 (dk_at dksX5_countOf_4 6 rfl rfl)
theorem dX5_countOf_95 : decode cX5_countOf 95 = .ok (.aload_n 0, 1) := dk_42 (dk_at dksX5_countOf_4 7 rfl rfl)
theorem dX5_countOf_96 : decode cX5_countOf 96 = .ok (.getfield 7, 3) := dk_180 0 7 (dk_at dksX5_countOf_4 8 rfl rfl)
theorem dX5_countOf_99 : decode cX5_countOf 99 = .ok (.sipush 440, 3) := dk_17 1 184 (dk_at dksX5_countOf_4 11 rfl rfl)
theorem dX5_countOf_102 : decode cX5_countOf 102 = .ok (.iload_n 3, 1) := dk_29 (dk_at dksX5_countOf_4 14 rfl rfl)
theorem dX5_countOf_103 : decode cX5_countOf 103 = .ok (.iadd, 1) := dk_96 (dk_at dksX5_countOf_4 15 rfl rfl)
theorem dX5_countOf_104 : decode cX5_countOf 104 = .ok (.laload, 1) := dk_47 (dk_at dksX5_countOf_4 16 rfl rfl)
theorem dX5_countOf_105 : decode cX5_countOf 105 = .ok (.lconst 1, 1) := dk_10 (dk_at dksX5_countOf_4 17 rfl rfl)
theorem dX5_countOf_106 : decode cX5_countOf 106 = .ok (.lcmp, 1) := dk_148 (dk_at dksX5_countOf_4 18 rfl rfl)
theorem dX5_countOf_107 : decode cX5_countOf 107 = .ok (.ifCond .ne 15, 3) := dk_154 0 15 (dk_at dksX5_countOf_4 19 rfl rfl)
theorem dX5_countOf_110 : decode cX5_countOf 110 = .ok (.aload_n 0, 1) := dk_42 (dk_at dksX5_countOf_4 22 rfl rfl)
theorem dX5_countOf_111 : decode cX5_countOf 111 = .ok (.iload_n 3, 1) := dk_29 (dk_at dksX5_countOf_4 23 rfl rfl)
theorem dX5_countOf_112 : decode cX5_countOf 112 = .ok (.invokevirtual 136, 3) := dk_182 0 136 (dk_at dksX5_countOf_5 0 rfl rfl)
theorem dX5_countOf_115 : decode cX5_countOf 115 = .ok (.ifCond .eq 7, 3) := dk_153 0 7 (dk_at dksX5_countOf_5 3 rfl rfl)
theorem dX5_countOf_118 : decode cX5_countOf 118 = .ok (.iconst 1, 1) := dk_4 (dk_at dksX5_countOf_5 6 rfl rfl)
theorem dX5_countOf_119 : decode cX5_countOf 119 = .ok (.goto 4, 3) := dk_167 0 4 (dk_at dksX5_countOf_5 7 rfl rfl)
theorem dX5_countOf_122 : decode cX5_countOf 122 = .ok (.iconst 0, 1) := dk_3 (dk_at dksX5_countOf_5 10 rfl rfl)
theorem dX5_countOf_123 : decode cX5_countOf 123 = .ok (.iadd, 1) := dk_96 (dk_at dksX5_countOf_5 11 rfl rfl)
theorem dX5_countOf_124 : decode cX5_countOf 124 = .ok (.istore_n 2, 1) := dk_61 (dk_at dksX5_countOf_5 12 rfl rfl)
theorem dX5_countOf_125 : decode cX5_countOf 125 = .ok (.iinc 3 1, 3) := dk_132 3 1 (dk_at dksX5_countOf_5 13 rfl rfl)
theorem dX5_countOf_128 : decode cX5_countOf 128 = .ok (.goto (-40), 3) := dk_167 255 216 (dk_at dksX5_countOf_5 16 rfl rfl)
theorem dX5_countOf_131 : decode cX5_countOf 131 = .ok (.iload_n 2, 1) := dk_28 (dk_at dksX5_countOf_5 19 rfl rfl)
theorem dX5_countOf_132 : decode cX5_countOf 132 = .ok (.ireturn, 1) := dk_172 (dk_at dksX5_countOf_5 20 rfl rfl)
abbrev cX5_wet : ByteArray := prog_13_method_40_code
def yX5_wet : MethodName := ⟨RX5, "wet", "()I"⟩
def dkwX5_wet_0 : List UInt8 := [42, 10, 42, 182, 0, 61, 121, 10, 101, 182, 0, 168, 172]
abbrev dktX5_wet_0 : List UInt8 := dkwX5_wet_0 ++ []
theorem dksX5_wet_0 : cX5_wet.data.toList.drop 0 = dktX5_wet_0 := by decide +kernel
theorem dX5_wet_0 : decode cX5_wet 0 = .ok (.aload_n 0, 1) := dk_42 (dk_at dksX5_wet_0 0 rfl rfl)
theorem dX5_wet_1 : decode cX5_wet 1 = .ok (.lconst 1, 1) := dk_10 (dk_at dksX5_wet_0 1 rfl rfl)
theorem dX5_wet_2 : decode cX5_wet 2 = .ok (.aload_n 0, 1) := dk_42 (dk_at dksX5_wet_0 2 rfl rfl)
theorem dX5_wet_3 : decode cX5_wet 3 = .ok (.invokevirtual 61, 3) := dk_182 0 61 (dk_at dksX5_wet_0 3 rfl rfl)
theorem dX5_wet_6 : decode cX5_wet 6 = .ok (.lshl, 1) := dk_121 (dk_at dksX5_wet_0 6 rfl rfl)
theorem dX5_wet_7 : decode cX5_wet 7 = .ok (.lconst 1, 1) := dk_10 (dk_at dksX5_wet_0 7 rfl rfl)
theorem dX5_wet_8 : decode cX5_wet 8 = .ok (.lsub, 1) := dk_101 (dk_at dksX5_wet_0 8 rfl rfl)
theorem dX5_wet_9 : decode cX5_wet 9 = .ok (.invokevirtual 168, 3) := dk_182 0 168 (dk_at dksX5_wet_0 9 rfl rfl)
theorem dX5_wet_12 : decode cX5_wet 12 = .ok (.ireturn, 1) := dk_172 (dk_at dksX5_wet_0 12 rfl rfl)
abbrev cX5_wetOf : ByteArray := prog_13_method_39_code
def yX5_wetOf : MethodName := ⟨RX5, "wetOf", "(J)I"⟩
def dkwX5_wetOf_1 : List UInt8 := [42, 21, 4, 182, 0, 165, 153, 0, 7, 4, 167, 0, 4, 3, 96, 62, 132, 4, 1, 167, 255, 218, 29, 172]
abbrev dktX5_wetOf_1 : List UInt8 := dkwX5_wetOf_1 ++ []
def dkwX5_wetOf_0 : List UInt8 := [3, 62, 3, 54, 4, 21, 4, 42, 182, 0, 61, 162, 0, 35, 29, 31, 21, 4, 184, 0, 91, 153, 0, 16]
abbrev dktX5_wetOf_0 : List UInt8 := dkwX5_wetOf_0 ++ dktX5_wetOf_1
theorem dksX5_wetOf_0 : cX5_wetOf.data.toList.drop 0 = dktX5_wetOf_0 := by decide +kernel
theorem dksX5_wetOf_1 : cX5_wetOf.data.toList.drop 24 = dktX5_wetOf_1 := dk_seg dksX5_wetOf_0 24 rfl rfl
theorem dX5_wetOf_0 : decode cX5_wetOf 0 = .ok (.iconst 0, 1) := dk_3 (dk_at dksX5_wetOf_0 0 rfl rfl)
theorem dX5_wetOf_1 : decode cX5_wetOf 1 = .ok (.istore_n 3, 1) := dk_62 (dk_at dksX5_wetOf_0 1 rfl rfl)
theorem dX5_wetOf_2 : decode cX5_wetOf 2 = .ok (.iconst 0, 1) := dk_3 (dk_at dksX5_wetOf_0 2 rfl rfl)
theorem dX5_wetOf_3 : decode cX5_wetOf 3 = .ok (.istore 4, 2) := dk_54 4 (dk_at dksX5_wetOf_0 3 rfl rfl)
theorem dX5_wetOf_5 : decode cX5_wetOf 5 = .ok (.iload 4, 2) := dk_21 4 (dk_at dksX5_wetOf_0 5 rfl rfl)
theorem dX5_wetOf_7 : decode cX5_wetOf 7 = .ok (.aload_n 0, 1) := dk_42 (dk_at dksX5_wetOf_0 7 rfl rfl)
theorem dX5_wetOf_8 : decode cX5_wetOf 8 = .ok (.invokevirtual 61, 3) := dk_182 0 61 (dk_at dksX5_wetOf_0 8 rfl rfl)
theorem dX5_wetOf_11 : decode cX5_wetOf 11 = .ok (.if_icmp .ge 35, 3) := dk_162 0 35 (dk_at dksX5_wetOf_0 11 rfl rfl)
theorem dX5_wetOf_14 : decode cX5_wetOf 14 = .ok (.iload_n 3, 1) := dk_29 (dk_at dksX5_wetOf_0 14 rfl rfl)
theorem dX5_wetOf_15 : decode cX5_wetOf 15 = .ok (.lload_n 1, 1) := dk_31 (dk_at dksX5_wetOf_0 15 rfl rfl)
theorem dX5_wetOf_16 : decode cX5_wetOf 16 = .ok (.iload 4, 2) := dk_21 4 (dk_at dksX5_wetOf_0 16 rfl rfl)
theorem dX5_wetOf_18 : decode cX5_wetOf 18 = .ok (.invokestatic 91, 3) := dk_184 0 91 (dk_at dksX5_wetOf_0 18 rfl rfl)
theorem dX5_wetOf_21 : decode cX5_wetOf 21 = .ok (.ifCond .eq 16, 3) := dk_153 0 16 (dk_at dksX5_wetOf_0 21 rfl rfl)
theorem dX5_wetOf_24 : decode cX5_wetOf 24 = .ok (.aload_n 0, 1) := dk_42 (dk_at dksX5_wetOf_1 0 rfl rfl)
theorem dX5_wetOf_25 : decode cX5_wetOf 25 = .ok (.iload 4, 2) := dk_21 4 (dk_at dksX5_wetOf_1 1 rfl rfl)
theorem dX5_wetOf_27 : decode cX5_wetOf 27 = .ok (.invokevirtual 165, 3) := dk_182 0 165 (dk_at dksX5_wetOf_1 3 rfl rfl)
theorem dX5_wetOf_30 : decode cX5_wetOf 30 = .ok (.ifCond .eq 7, 3) := dk_153 0 7 (dk_at dksX5_wetOf_1 6 rfl rfl)
theorem dX5_wetOf_33 : decode cX5_wetOf 33 = .ok (.iconst 1, 1) := dk_4 (dk_at dksX5_wetOf_1 9 rfl rfl)
theorem dX5_wetOf_34 : decode cX5_wetOf 34 = .ok (.goto 4, 3) := dk_167 0 4 (dk_at dksX5_wetOf_1 10 rfl rfl)
theorem dX5_wetOf_37 : decode cX5_wetOf 37 = .ok (.iconst 0, 1) := dk_3 (dk_at dksX5_wetOf_1 13 rfl rfl)
theorem dX5_wetOf_38 : decode cX5_wetOf 38 = .ok (.iadd, 1) := dk_96 (dk_at dksX5_wetOf_1 14 rfl rfl)
theorem dX5_wetOf_39 : decode cX5_wetOf 39 = .ok (.istore_n 3, 1) := dk_62 (dk_at dksX5_wetOf_1 15 rfl rfl)
theorem dX5_wetOf_40 : decode cX5_wetOf 40 = .ok (.iinc 4 1, 3) := dk_132 4 1 (dk_at dksX5_wetOf_1 16 rfl rfl)
theorem dX5_wetOf_43 : decode cX5_wetOf 43 = .ok (.goto (-38), 3) := dk_167 255 218 (dk_at dksX5_wetOf_1 19 rfl rfl)
theorem dX5_wetOf_46 : decode cX5_wetOf 46 = .ok (.iload_n 3, 1) := dk_29 (dk_at dksX5_wetOf_1 22 rfl rfl)
theorem dX5_wetOf_47 : decode cX5_wetOf 47 = .ok (.ireturn, 1) := dk_172 (dk_at dksX5_wetOf_1 23 rfl rfl)
abbrev cX5_seaCells : ByteArray := prog_13_method_54_code
def yX5_seaCells : MethodName := ⟨RX5, "seaCells", "()I"⟩
def dkwX5_seaCells_1 : List UInt8 := [20, 0, 109, 148, 154, 0, 7, 4, 167, 0, 4, 3, 96, 60, 132, 2, 1, 167, 255, 221, 27, 172]
abbrev dktX5_seaCells_1 : List UInt8 := dkwX5_seaCells_1 ++ []
def dkwX5_seaCells_0 : List UInt8 := [3, 60, 3, 61, 28, 42, 182, 0, 61, 162, 0, 33, 27, 42, 180, 0, 7, 16, 116, 28, 96, 47]
abbrev dktX5_seaCells_0 : List UInt8 := dkwX5_seaCells_0 ++ dktX5_seaCells_1
theorem dksX5_seaCells_0 : cX5_seaCells.data.toList.drop 0 = dktX5_seaCells_0 := by decide +kernel
theorem dksX5_seaCells_1 : cX5_seaCells.data.toList.drop 22 = dktX5_seaCells_1 := dk_seg dksX5_seaCells_0 22 rfl rfl
theorem dX5_seaCells_0 : decode cX5_seaCells 0 = .ok (.iconst 0, 1) := dk_3 (dk_at dksX5_seaCells_0 0 rfl rfl)
theorem dX5_seaCells_1 : decode cX5_seaCells 1 = .ok (.istore_n 1, 1) := dk_60 (dk_at dksX5_seaCells_0 1 rfl rfl)
theorem dX5_seaCells_2 : decode cX5_seaCells 2 = .ok (.iconst 0, 1) := dk_3 (dk_at dksX5_seaCells_0 2 rfl rfl)
theorem dX5_seaCells_3 : decode cX5_seaCells 3 = .ok (.istore_n 2, 1) := dk_61 (dk_at dksX5_seaCells_0 3 rfl rfl)
theorem dX5_seaCells_4 : decode cX5_seaCells 4 = .ok (.iload_n 2, 1) := dk_28 (dk_at dksX5_seaCells_0 4 rfl rfl)
theorem dX5_seaCells_5 : decode cX5_seaCells 5 = .ok (.aload_n 0, 1) := dk_42 (dk_at dksX5_seaCells_0 5 rfl rfl)
theorem dX5_seaCells_6 : decode cX5_seaCells 6 = .ok (.invokevirtual 61, 3) := dk_182 0 61 (dk_at dksX5_seaCells_0 6 rfl rfl)
theorem dX5_seaCells_9 : decode cX5_seaCells 9 = .ok (.if_icmp .ge 33, 3) := dk_162 0 33 (dk_at dksX5_seaCells_0 9 rfl rfl)
theorem dX5_seaCells_12 : decode cX5_seaCells 12 = .ok (.iload_n 1, 1) := dk_27 (dk_at dksX5_seaCells_0 12 rfl rfl)
theorem dX5_seaCells_13 : decode cX5_seaCells 13 = .ok (.aload_n 0, 1) := dk_42 (dk_at dksX5_seaCells_0 13 rfl rfl)
theorem dX5_seaCells_14 : decode cX5_seaCells 14 = .ok (.getfield 7, 3) := dk_180 0 7 (dk_at dksX5_seaCells_0 14 rfl rfl)
theorem dX5_seaCells_17 : decode cX5_seaCells 17 = .ok (.bipush 116, 2) := dk_16 116 (dk_at dksX5_seaCells_0 17 rfl rfl)
theorem dX5_seaCells_19 : decode cX5_seaCells 19 = .ok (.iload_n 2, 1) := dk_28 (dk_at dksX5_seaCells_0 19 rfl rfl)
theorem dX5_seaCells_20 : decode cX5_seaCells 20 = .ok (.iadd, 1) := dk_96 (dk_at dksX5_seaCells_0 20 rfl rfl)
theorem dX5_seaCells_21 : decode cX5_seaCells 21 = .ok (.laload, 1) := dk_47 (dk_at dksX5_seaCells_0 21 rfl rfl)
theorem dX5_seaCells_22 : decode cX5_seaCells 22 = .ok (.ldc2_w 109, 3) := dk_20 0 109 (dk_at dksX5_seaCells_1 0 rfl rfl)
theorem dX5_seaCells_25 : decode cX5_seaCells 25 = .ok (.lcmp, 1) := dk_148 (dk_at dksX5_seaCells_1 3 rfl rfl)
theorem dX5_seaCells_26 : decode cX5_seaCells 26 = .ok (.ifCond .ne 7, 3) := dk_154 0 7 (dk_at dksX5_seaCells_1 4 rfl rfl)
theorem dX5_seaCells_29 : decode cX5_seaCells 29 = .ok (.iconst 1, 1) := dk_4 (dk_at dksX5_seaCells_1 7 rfl rfl)
theorem dX5_seaCells_30 : decode cX5_seaCells 30 = .ok (.goto 4, 3) := dk_167 0 4 (dk_at dksX5_seaCells_1 8 rfl rfl)
theorem dX5_seaCells_33 : decode cX5_seaCells 33 = .ok (.iconst 0, 1) := dk_3 (dk_at dksX5_seaCells_1 11 rfl rfl)
theorem dX5_seaCells_34 : decode cX5_seaCells 34 = .ok (.iadd, 1) := dk_96 (dk_at dksX5_seaCells_1 12 rfl rfl)
theorem dX5_seaCells_35 : decode cX5_seaCells 35 = .ok (.istore_n 1, 1) := dk_60 (dk_at dksX5_seaCells_1 13 rfl rfl)
theorem dX5_seaCells_36 : decode cX5_seaCells 36 = .ok (.iinc 2 1, 3) := dk_132 2 1 (dk_at dksX5_seaCells_1 14 rfl rfl)
theorem dX5_seaCells_39 : decode cX5_seaCells 39 = .ok (.goto (-35), 3) := dk_167 255 221 (dk_at dksX5_seaCells_1 17 rfl rfl)
theorem dX5_seaCells_42 : decode cX5_seaCells 42 = .ok (.iload_n 1, 1) := dk_27 (dk_at dksX5_seaCells_1 20 rfl rfl)
theorem dX5_seaCells_43 : decode cX5_seaCells 43 = .ok (.ireturn, 1) := dk_172 (dk_at dksX5_seaCells_1 21 rfl rfl)
abbrev cX5_pour : ByteArray := prog_13_method_57_code
def yX5_pour : MethodName := ⟨RX5, "pour", "(II)I"⟩
def dkwX5_pour_3 : List UInt8 := [182, 0, 177, 42, 180, 0, 7, 6, 47, 33, 101, 136, 172]
abbrev dktX5_pour_3 : List UInt8 := dkwX5_pour_3 ++ []
def dkwX5_pour_2 : List UInt8 := [42, 180, 0, 7, 6, 47, 66, 42, 180, 0, 7, 8, 92, 47, 28, 133, 97, 80, 42, 27, 28, 133]
abbrev dktX5_pour_2 : List UInt8 := dkwX5_pour_2 ++ dktX5_pour_3
def dkwX5_pour_1 : List UInt8 := [20, 0, 234, 148, 157, 0, 7, 4, 167, 0, 4, 3, 182, 0, 183, 154, 0, 5, 3, 172, 42, 182, 0, 187]
abbrev dktX5_pour_1 : List UInt8 := dkwX5_pour_1 ++ dktX5_pour_2
def dkwX5_pour_0 : List UInt8 := [42, 42, 27, 182, 0, 73, 28, 133, 9, 20, 0, 228, 184, 0, 65, 42, 182, 0, 230, 28, 133, 97]
abbrev dktX5_pour_0 : List UInt8 := dkwX5_pour_0 ++ dktX5_pour_1
theorem dksX5_pour_0 : cX5_pour.data.toList.drop 0 = dktX5_pour_0 := by decide +kernel
theorem dksX5_pour_1 : cX5_pour.data.toList.drop 22 = dktX5_pour_1 := dk_seg dksX5_pour_0 22 rfl rfl
theorem dksX5_pour_2 : cX5_pour.data.toList.drop 46 = dktX5_pour_2 := dk_seg dksX5_pour_1 24 rfl rfl
theorem dksX5_pour_3 : cX5_pour.data.toList.drop 68 = dktX5_pour_3 := dk_seg dksX5_pour_2 22 rfl rfl
theorem dX5_pour_0 : decode cX5_pour 0 = .ok (.aload_n 0, 1) := dk_42 (dk_at dksX5_pour_0 0 rfl rfl)
theorem dX5_pour_1 : decode cX5_pour 1 = .ok (.aload_n 0, 1) := dk_42 (dk_at dksX5_pour_0 1 rfl rfl)
theorem dX5_pour_2 : decode cX5_pour 2 = .ok (.iload_n 1, 1) := dk_27 (dk_at dksX5_pour_0 2 rfl rfl)
theorem dX5_pour_3 : decode cX5_pour 3 = .ok (.invokevirtual 73, 3) := dk_182 0 73 (dk_at dksX5_pour_0 3 rfl rfl)
theorem dX5_pour_6 : decode cX5_pour 6 = .ok (.iload_n 2, 1) := dk_28 (dk_at dksX5_pour_0 6 rfl rfl)
theorem dX5_pour_7 : decode cX5_pour 7 = .ok (.i2l, 1) := dk_133 (dk_at dksX5_pour_0 7 rfl rfl)
theorem dX5_pour_8 : decode cX5_pour 8 = .ok (.lconst 0, 1) := dk_9 (dk_at dksX5_pour_0 8 rfl rfl)
theorem dX5_pour_9 : decode cX5_pour 9 = .ok (.ldc2_w 228, 3) := dk_20 0 228 (dk_at dksX5_pour_0 9 rfl rfl)
theorem dX5_pour_12 : decode cX5_pour 12 = .ok (.invokestatic 65, 3) := dk_184 0 65 (dk_at dksX5_pour_0 12 rfl rfl)
theorem dX5_pour_15 : decode cX5_pour 15 = .ok (.aload_n 0, 1) := dk_42 (dk_at dksX5_pour_0 15 rfl rfl)
theorem dX5_pour_16 : decode cX5_pour 16 = .ok (.invokevirtual 230, 3) := dk_182 0 230 (dk_at dksX5_pour_0 16 rfl rfl)
theorem dX5_pour_19 : decode cX5_pour 19 = .ok (.iload_n 2, 1) := dk_28 (dk_at dksX5_pour_0 19 rfl rfl)
theorem dX5_pour_20 : decode cX5_pour 20 = .ok (.i2l, 1) := dk_133 (dk_at dksX5_pour_0 20 rfl rfl)
theorem dX5_pour_21 : decode cX5_pour 21 = .ok (.ladd, 1) := dk_97 (dk_at dksX5_pour_0 21 rfl rfl)
theorem dX5_pour_22 : decode cX5_pour 22 = .ok (.ldc2_w 234, 3) := dk_20 0 234 (dk_at dksX5_pour_1 0 rfl rfl)
theorem dX5_pour_25 : decode cX5_pour 25 = .ok (.lcmp, 1) := dk_148 (dk_at dksX5_pour_1 3 rfl rfl)
theorem dX5_pour_26 : decode cX5_pour 26 = .ok (.ifCond .gt 7, 3) := dk_157 0 7 (dk_at dksX5_pour_1 4 rfl rfl)
theorem dX5_pour_29 : decode cX5_pour 29 = .ok (.iconst 1, 1) := dk_4 (dk_at dksX5_pour_1 7 rfl rfl)
theorem dX5_pour_30 : decode cX5_pour 30 = .ok (.goto 4, 3) := dk_167 0 4 (dk_at dksX5_pour_1 8 rfl rfl)
theorem dX5_pour_33 : decode cX5_pour 33 = .ok (.iconst 0, 1) := dk_3 (dk_at dksX5_pour_1 11 rfl rfl)
theorem dX5_pour_34 : decode cX5_pour 34 = .ok (.invokevirtual 183, 3) := dk_182 0 183 (dk_at dksX5_pour_1 12 rfl rfl)
theorem dX5_pour_37 : decode cX5_pour 37 = .ok (.ifCond .ne 5, 3) := dk_154 0 5 (dk_at dksX5_pour_1 15 rfl rfl)
theorem dX5_pour_40 : decode cX5_pour 40 = .ok (.iconst 0, 1) := dk_3 (dk_at dksX5_pour_1 18 rfl rfl)
theorem dX5_pour_41 : decode cX5_pour 41 = .ok (.ireturn, 1) := dk_172 (dk_at dksX5_pour_1 19 rfl rfl)
theorem dX5_pour_42 : decode cX5_pour 42 = .ok (.aload_n 0, 1) := dk_42 (dk_at dksX5_pour_1 20 rfl rfl)
theorem dX5_pour_43 : decode cX5_pour 43 = .ok (.invokevirtual 187, 3) := dk_182 0 187 (dk_at dksX5_pour_1 21 rfl rfl)
theorem dX5_pour_46 : decode cX5_pour 46 = .ok (.aload_n 0, 1) := dk_42 (dk_at dksX5_pour_2 0 rfl rfl)
theorem dX5_pour_47 : decode cX5_pour 47 = .ok (.getfield 7, 3) := dk_180 0 7 (dk_at dksX5_pour_2 1 rfl rfl)
theorem dX5_pour_50 : decode cX5_pour 50 = .ok (.iconst 3, 1) := dk_6 (dk_at dksX5_pour_2 4 rfl rfl)
theorem dX5_pour_51 : decode cX5_pour 51 = .ok (.laload, 1) := dk_47 (dk_at dksX5_pour_2 5 rfl rfl)
theorem dX5_pour_52 : decode cX5_pour 52 = .ok (.lstore_n 3, 1) := dk_66 (dk_at dksX5_pour_2 6 rfl rfl)
theorem dX5_pour_53 : decode cX5_pour 53 = .ok (.aload_n 0, 1) := dk_42 (dk_at dksX5_pour_2 7 rfl rfl)
theorem dX5_pour_54 : decode cX5_pour 54 = .ok (.getfield 7, 3) := dk_180 0 7 (dk_at dksX5_pour_2 8 rfl rfl)
theorem dX5_pour_57 : decode cX5_pour 57 = .ok (.iconst 5, 1) := dk_8 (dk_at dksX5_pour_2 11 rfl rfl)
theorem dX5_pour_58 : decode cX5_pour 58 = .ok (.dup2, 1) := dk_92 (dk_at dksX5_pour_2 12 rfl rfl)
theorem dX5_pour_59 : decode cX5_pour 59 = .ok (.laload, 1) := dk_47 (dk_at dksX5_pour_2 13 rfl rfl)
theorem dX5_pour_60 : decode cX5_pour 60 = .ok (.iload_n 2, 1) := dk_28 (dk_at dksX5_pour_2 14 rfl rfl)
theorem dX5_pour_61 : decode cX5_pour 61 = .ok (.i2l, 1) := dk_133 (dk_at dksX5_pour_2 15 rfl rfl)
theorem dX5_pour_62 : decode cX5_pour 62 = .ok (.ladd, 1) := dk_97 (dk_at dksX5_pour_2 16 rfl rfl)
theorem dX5_pour_63 : decode cX5_pour 63 = .ok (.lastore, 1) := dk_80 (dk_at dksX5_pour_2 17 rfl rfl)
theorem dX5_pour_64 : decode cX5_pour 64 = .ok (.aload_n 0, 1) := dk_42 (dk_at dksX5_pour_2 18 rfl rfl)
theorem dX5_pour_65 : decode cX5_pour 65 = .ok (.iload_n 1, 1) := dk_27 (dk_at dksX5_pour_2 19 rfl rfl)
theorem dX5_pour_66 : decode cX5_pour 66 = .ok (.iload_n 2, 1) := dk_28 (dk_at dksX5_pour_2 20 rfl rfl)
theorem dX5_pour_67 : decode cX5_pour 67 = .ok (.i2l, 1) := dk_133 (dk_at dksX5_pour_2 21 rfl rfl)
theorem dX5_pour_68 : decode cX5_pour 68 = .ok (.invokevirtual 177, 3) := dk_182 0 177 (dk_at dksX5_pour_3 0 rfl rfl)
theorem dX5_pour_71 : decode cX5_pour 71 = .ok (.aload_n 0, 1) := dk_42 (dk_at dksX5_pour_3 3 rfl rfl)
theorem dX5_pour_72 : decode cX5_pour 72 = .ok (.getfield 7, 3) := dk_180 0 7 (dk_at dksX5_pour_3 4 rfl rfl)
theorem dX5_pour_75 : decode cX5_pour 75 = .ok (.iconst 3, 1) := dk_6 (dk_at dksX5_pour_3 7 rfl rfl)
theorem dX5_pour_76 : decode cX5_pour 76 = .ok (.laload, 1) := dk_47 (dk_at dksX5_pour_3 8 rfl rfl)
theorem dX5_pour_77 : decode cX5_pour 77 = .ok (.lload_n 3, 1) := dk_33 (dk_at dksX5_pour_3 9 rfl rfl)
theorem dX5_pour_78 : decode cX5_pour 78 = .ok (.lsub, 1) := dk_101 (dk_at dksX5_pour_3 10 rfl rfl)
theorem dX5_pour_79 : decode cX5_pour 79 = .ok (.l2i, 1) := dk_136 (dk_at dksX5_pour_3 11 rfl rfl)
theorem dX5_pour_80 : decode cX5_pour 80 = .ok (.ireturn, 1) := dk_172 (dk_at dksX5_pour_3 12 rfl rfl)
abbrev cX5_water : ByteArray := prog_13_method_36_code
def yX5_water : MethodName := ⟨RX5, "water", "()J"⟩
def dkwX5_water_2 : List UInt8 := [167, 255, 215, 31, 173]
abbrev dktX5_water_2 : List UInt8 := dkwX5_water_2 ++ []
def dkwX5_water_1 : List UInt8 := [154, 0, 16, 42, 180, 0, 7, 17, 0, 224, 29, 96, 47, 167, 0, 4, 9, 97, 64, 132, 3, 1]
abbrev dktX5_water_1 : List UInt8 := dkwX5_water_1 ++ dktX5_water_2
def dkwX5_water_0 : List UInt8 := [9, 64, 3, 62, 29, 16, 72, 162, 0, 41, 31, 42, 180, 0, 7, 17, 1, 184, 29, 96, 47, 10, 148]
abbrev dktX5_water_0 : List UInt8 := dkwX5_water_0 ++ dktX5_water_1
theorem dksX5_water_0 : cX5_water.data.toList.drop 0 = dktX5_water_0 := by decide +kernel
theorem dksX5_water_1 : cX5_water.data.toList.drop 23 = dktX5_water_1 := dk_seg dksX5_water_0 23 rfl rfl
theorem dksX5_water_2 : cX5_water.data.toList.drop 45 = dktX5_water_2 := dk_seg dksX5_water_1 22 rfl rfl
theorem dX5_water_0 : decode cX5_water 0 = .ok (.lconst 0, 1) := dk_9 (dk_at dksX5_water_0 0 rfl rfl)
theorem dX5_water_1 : decode cX5_water 1 = .ok (.lstore_n 1, 1) := dk_64 (dk_at dksX5_water_0 1 rfl rfl)
theorem dX5_water_2 : decode cX5_water 2 = .ok (.iconst 0, 1) := dk_3 (dk_at dksX5_water_0 2 rfl rfl)
theorem dX5_water_3 : decode cX5_water 3 = .ok (.istore_n 3, 1) := dk_62 (dk_at dksX5_water_0 3 rfl rfl)
theorem dX5_water_4 : decode cX5_water 4 = .ok (.iload_n 3, 1) := dk_29 (dk_at dksX5_water_0 4 rfl rfl)
theorem dX5_water_5 : decode cX5_water 5 = .ok (.bipush 72, 2) := dk_16 72 (dk_at dksX5_water_0 5 rfl rfl)
theorem dX5_water_7 : decode cX5_water 7 = .ok (.if_icmp .ge 41, 3) := dk_162 0 41 (dk_at dksX5_water_0 7 rfl rfl)
theorem dX5_water_10 : decode cX5_water 10 = .ok (.lload_n 1, 1) := dk_31 (dk_at dksX5_water_0 10 rfl rfl)
theorem dX5_water_11 : decode cX5_water 11 = .ok (.aload_n 0, 1) := dk_42 (dk_at dksX5_water_0 11 rfl rfl)
theorem dX5_water_12 : decode cX5_water 12 = .ok (.getfield 7, 3) := dk_180 0 7 (dk_at dksX5_water_0 12 rfl rfl)
theorem dX5_water_15 : decode cX5_water 15 = .ok (.sipush 440, 3) := dk_17 1 184 (dk_at dksX5_water_0 15 rfl rfl)
theorem dX5_water_18 : decode cX5_water 18 = .ok (.iload_n 3, 1) := dk_29 (dk_at dksX5_water_0 18 rfl rfl)
theorem dX5_water_19 : decode cX5_water 19 = .ok (.iadd, 1) := dk_96 (dk_at dksX5_water_0 19 rfl rfl)
theorem dX5_water_20 : decode cX5_water 20 = .ok (.laload, 1) := dk_47 (dk_at dksX5_water_0 20 rfl rfl)
theorem dX5_water_21 : decode cX5_water 21 = .ok (.lconst 1, 1) := dk_10 (dk_at dksX5_water_0 21 rfl rfl)
theorem dX5_water_22 : decode cX5_water 22 = .ok (.lcmp, 1) := dk_148 (dk_at dksX5_water_0 22 rfl rfl)
theorem dX5_water_23 : decode cX5_water 23 = .ok (.ifCond .ne 16, 3) := dk_154 0 16 (dk_at dksX5_water_1 0 rfl rfl)
theorem dX5_water_26 : decode cX5_water 26 = .ok (.aload_n 0, 1) := dk_42 (dk_at dksX5_water_1 3 rfl rfl)
theorem dX5_water_27 : decode cX5_water 27 = .ok (.getfield 7, 3) := dk_180 0 7 (dk_at dksX5_water_1 4 rfl rfl)
theorem dX5_water_30 : decode cX5_water 30 = .ok (.sipush 224, 3) := dk_17 0 224 (dk_at dksX5_water_1 7 rfl rfl)
theorem dX5_water_33 : decode cX5_water 33 = .ok (.iload_n 3, 1) := dk_29 (dk_at dksX5_water_1 10 rfl rfl)
theorem dX5_water_34 : decode cX5_water 34 = .ok (.iadd, 1) := dk_96 (dk_at dksX5_water_1 11 rfl rfl)
theorem dX5_water_35 : decode cX5_water 35 = .ok (.laload, 1) := dk_47 (dk_at dksX5_water_1 12 rfl rfl)
theorem dX5_water_36 : decode cX5_water 36 = .ok (.goto 4, 3) := dk_167 0 4 (dk_at dksX5_water_1 13 rfl rfl)
theorem dX5_water_39 : decode cX5_water 39 = .ok (.lconst 0, 1) := dk_9 (dk_at dksX5_water_1 16 rfl rfl)
theorem dX5_water_40 : decode cX5_water 40 = .ok (.ladd, 1) := dk_97 (dk_at dksX5_water_1 17 rfl rfl)
theorem dX5_water_41 : decode cX5_water 41 = .ok (.lstore_n 1, 1) := dk_64 (dk_at dksX5_water_1 18 rfl rfl)
theorem dX5_water_42 : decode cX5_water 42 = .ok (.iinc 3 1, 3) := dk_132 3 1 (dk_at dksX5_water_1 19 rfl rfl)
theorem dX5_water_45 : decode cX5_water 45 = .ok (.goto (-41), 3) := dk_167 255 215 (dk_at dksX5_water_2 0 rfl rfl)
theorem dX5_water_48 : decode cX5_water 48 = .ok (.lload_n 1, 1) := dk_31 (dk_at dksX5_water_2 3 rfl rfl)
theorem dX5_water_49 : decode cX5_water 49 = .ok (.lreturn, 1) := dk_173 (dk_at dksX5_water_2 4 rfl rfl)
abbrev cX5_rain : ByteArray := prog_13_method_58_code
def yX5_rain : MethodName := ⟨RX5, "rain", "(I)I"⟩
def dkwX5_rain_4 : List UInt8 := [42, 180, 0, 7, 6, 47, 32, 101, 136, 172]
abbrev dktX5_rain_4 : List UInt8 := dkwX5_rain_4 ++ []
def dkwX5_rain_3 : List UInt8 := [180, 0, 7, 8, 92, 47, 27, 133, 97, 80, 42, 21, 4, 27, 133, 182, 0, 177, 132, 4, 1, 167, 255, 225]
abbrev dktX5_rain_3 : List UInt8 := dkwX5_rain_3 ++ dktX5_rain_4
def dkwX5_rain_2 : List UInt8 := [182, 0, 187, 42, 180, 0, 7, 6, 47, 65, 3, 54, 4, 21, 4, 42, 182, 0, 61, 162, 0, 28, 42]
abbrev dktX5_rain_2 : List UInt8 := dkwX5_rain_2 ++ dktX5_rain_3
def dkwX5_rain_1 : List UInt8 := [20, 0, 234, 148, 157, 0, 7, 4, 167, 0, 4, 3, 4, 182, 0, 183, 154, 0, 5, 3, 172, 42]
abbrev dktX5_rain_1 : List UInt8 := dkwX5_rain_1 ++ dktX5_rain_2
def dkwX5_rain_0 : List UInt8 := [42, 27, 133, 9, 20, 0, 236, 184, 0, 65, 42, 182, 0, 230, 27, 133, 42, 182, 0, 61, 133, 105, 97]
abbrev dktX5_rain_0 : List UInt8 := dkwX5_rain_0 ++ dktX5_rain_1
theorem dksX5_rain_0 : cX5_rain.data.toList.drop 0 = dktX5_rain_0 := by decide +kernel
theorem dksX5_rain_1 : cX5_rain.data.toList.drop 23 = dktX5_rain_1 := dk_seg dksX5_rain_0 23 rfl rfl
theorem dksX5_rain_2 : cX5_rain.data.toList.drop 45 = dktX5_rain_2 := dk_seg dksX5_rain_1 22 rfl rfl
theorem dksX5_rain_3 : cX5_rain.data.toList.drop 68 = dktX5_rain_3 := dk_seg dksX5_rain_2 23 rfl rfl
theorem dksX5_rain_4 : cX5_rain.data.toList.drop 92 = dktX5_rain_4 := dk_seg dksX5_rain_3 24 rfl rfl
theorem dX5_rain_0 : decode cX5_rain 0 = .ok (.aload_n 0, 1) := dk_42 (dk_at dksX5_rain_0 0 rfl rfl)
theorem dX5_rain_1 : decode cX5_rain 1 = .ok (.iload_n 1, 1) := dk_27 (dk_at dksX5_rain_0 1 rfl rfl)
theorem dX5_rain_2 : decode cX5_rain 2 = .ok (.i2l, 1) := dk_133 (dk_at dksX5_rain_0 2 rfl rfl)
theorem dX5_rain_3 : decode cX5_rain 3 = .ok (.lconst 0, 1) := dk_9 (dk_at dksX5_rain_0 3 rfl rfl)
theorem dX5_rain_4 : decode cX5_rain 4 = .ok (.ldc2_w 236, 3) := dk_20 0 236 (dk_at dksX5_rain_0 4 rfl rfl)
theorem dX5_rain_7 : decode cX5_rain 7 = .ok (.invokestatic 65, 3) := dk_184 0 65 (dk_at dksX5_rain_0 7 rfl rfl)
theorem dX5_rain_10 : decode cX5_rain 10 = .ok (.aload_n 0, 1) := dk_42 (dk_at dksX5_rain_0 10 rfl rfl)
theorem dX5_rain_11 : decode cX5_rain 11 = .ok (.invokevirtual 230, 3) := dk_182 0 230 (dk_at dksX5_rain_0 11 rfl rfl)
theorem dX5_rain_14 : decode cX5_rain 14 = .ok (.iload_n 1, 1) := dk_27 (dk_at dksX5_rain_0 14 rfl rfl)
theorem dX5_rain_15 : decode cX5_rain 15 = .ok (.i2l, 1) := dk_133 (dk_at dksX5_rain_0 15 rfl rfl)
theorem dX5_rain_16 : decode cX5_rain 16 = .ok (.aload_n 0, 1) := dk_42 (dk_at dksX5_rain_0 16 rfl rfl)
theorem dX5_rain_17 : decode cX5_rain 17 = .ok (.invokevirtual 61, 3) := dk_182 0 61 (dk_at dksX5_rain_0 17 rfl rfl)
theorem dX5_rain_20 : decode cX5_rain 20 = .ok (.i2l, 1) := dk_133 (dk_at dksX5_rain_0 20 rfl rfl)
theorem dX5_rain_21 : decode cX5_rain 21 = .ok (.lmul, 1) := dk_105 (dk_at dksX5_rain_0 21 rfl rfl)
theorem dX5_rain_22 : decode cX5_rain 22 = .ok (.ladd, 1) := dk_97 (dk_at dksX5_rain_0 22 rfl rfl)
theorem dX5_rain_23 : decode cX5_rain 23 = .ok (.ldc2_w 234, 3) := dk_20 0 234 (dk_at dksX5_rain_1 0 rfl rfl)
theorem dX5_rain_26 : decode cX5_rain 26 = .ok (.lcmp, 1) := dk_148 (dk_at dksX5_rain_1 3 rfl rfl)
theorem dX5_rain_27 : decode cX5_rain 27 = .ok (.ifCond .gt 7, 3) := dk_157 0 7 (dk_at dksX5_rain_1 4 rfl rfl)
theorem dX5_rain_30 : decode cX5_rain 30 = .ok (.iconst 1, 1) := dk_4 (dk_at dksX5_rain_1 7 rfl rfl)
theorem dX5_rain_31 : decode cX5_rain 31 = .ok (.goto 4, 3) := dk_167 0 4 (dk_at dksX5_rain_1 8 rfl rfl)
theorem dX5_rain_34 : decode cX5_rain 34 = .ok (.iconst 0, 1) := dk_3 (dk_at dksX5_rain_1 11 rfl rfl)
theorem dX5_rain_35 : decode cX5_rain 35 = .ok (.iconst 1, 1) := dk_4 (dk_at dksX5_rain_1 12 rfl rfl)
theorem dX5_rain_36 : decode cX5_rain 36 = .ok (.invokevirtual 183, 3) := dk_182 0 183 (dk_at dksX5_rain_1 13 rfl rfl)
theorem dX5_rain_39 : decode cX5_rain 39 = .ok (.ifCond .ne 5, 3) := dk_154 0 5 (dk_at dksX5_rain_1 16 rfl rfl)
theorem dX5_rain_42 : decode cX5_rain 42 = .ok (.iconst 0, 1) := dk_3 (dk_at dksX5_rain_1 19 rfl rfl)
theorem dX5_rain_43 : decode cX5_rain 43 = .ok (.ireturn, 1) := dk_172 (dk_at dksX5_rain_1 20 rfl rfl)
theorem dX5_rain_44 : decode cX5_rain 44 = .ok (.aload_n 0, 1) := dk_42 (dk_at dksX5_rain_1 21 rfl rfl)
theorem dX5_rain_45 : decode cX5_rain 45 = .ok (.invokevirtual 187, 3) := dk_182 0 187 (dk_at dksX5_rain_2 0 rfl rfl)
theorem dX5_rain_48 : decode cX5_rain 48 = .ok (.aload_n 0, 1) := dk_42 (dk_at dksX5_rain_2 3 rfl rfl)
theorem dX5_rain_49 : decode cX5_rain 49 = .ok (.getfield 7, 3) := dk_180 0 7 (dk_at dksX5_rain_2 4 rfl rfl)
theorem dX5_rain_52 : decode cX5_rain 52 = .ok (.iconst 3, 1) := dk_6 (dk_at dksX5_rain_2 7 rfl rfl)
theorem dX5_rain_53 : decode cX5_rain 53 = .ok (.laload, 1) := dk_47 (dk_at dksX5_rain_2 8 rfl rfl)
theorem dX5_rain_54 : decode cX5_rain 54 = .ok (.lstore_n 2, 1) := dk_65 (dk_at dksX5_rain_2 9 rfl rfl)
theorem dX5_rain_55 : decode cX5_rain 55 = .ok (.iconst 0, 1) := dk_3 (dk_at dksX5_rain_2 10 rfl rfl)
theorem dX5_rain_56 : decode cX5_rain 56 = .ok (.istore 4, 2) := dk_54 4 (dk_at dksX5_rain_2 11 rfl rfl)
theorem dX5_rain_58 : decode cX5_rain 58 = .ok (.iload 4, 2) := dk_21 4 (dk_at dksX5_rain_2 13 rfl rfl)
theorem dX5_rain_60 : decode cX5_rain 60 = .ok (.aload_n 0, 1) := dk_42 (dk_at dksX5_rain_2 15 rfl rfl)
theorem dX5_rain_61 : decode cX5_rain 61 = .ok (.invokevirtual 61, 3) := dk_182 0 61 (dk_at dksX5_rain_2 16 rfl rfl)
theorem dX5_rain_64 : decode cX5_rain 64 = .ok (.if_icmp .ge 28, 3) := dk_162 0 28 (dk_at dksX5_rain_2 19 rfl rfl)
theorem dX5_rain_67 : decode cX5_rain 67 = .ok (.aload_n 0, 1) := dk_42 (dk_at dksX5_rain_2 22 rfl rfl)
theorem dX5_rain_68 : decode cX5_rain 68 = .ok (.getfield 7, 3) := dk_180 0 7 (dk_at dksX5_rain_3 0 rfl rfl)
theorem dX5_rain_71 : decode cX5_rain 71 = .ok (.iconst 5, 1) := dk_8 (dk_at dksX5_rain_3 3 rfl rfl)
theorem dX5_rain_72 : decode cX5_rain 72 = .ok (.dup2, 1) := dk_92 (dk_at dksX5_rain_3 4 rfl rfl)
theorem dX5_rain_73 : decode cX5_rain 73 = .ok (.laload, 1) := dk_47 (dk_at dksX5_rain_3 5 rfl rfl)
theorem dX5_rain_74 : decode cX5_rain 74 = .ok (.iload_n 1, 1) := dk_27 (dk_at dksX5_rain_3 6 rfl rfl)
theorem dX5_rain_75 : decode cX5_rain 75 = .ok (.i2l, 1) := dk_133 (dk_at dksX5_rain_3 7 rfl rfl)
theorem dX5_rain_76 : decode cX5_rain 76 = .ok (.ladd, 1) := dk_97 (dk_at dksX5_rain_3 8 rfl rfl)
theorem dX5_rain_77 : decode cX5_rain 77 = .ok (.lastore, 1) := dk_80 (dk_at dksX5_rain_3 9 rfl rfl)
theorem dX5_rain_78 : decode cX5_rain 78 = .ok (.aload_n 0, 1) := dk_42 (dk_at dksX5_rain_3 10 rfl rfl)
theorem dX5_rain_79 : decode cX5_rain 79 = .ok (.iload 4, 2) := dk_21 4 (dk_at dksX5_rain_3 11 rfl rfl)
theorem dX5_rain_81 : decode cX5_rain 81 = .ok (.iload_n 1, 1) := dk_27 (dk_at dksX5_rain_3 13 rfl rfl)
theorem dX5_rain_82 : decode cX5_rain 82 = .ok (.i2l, 1) := dk_133 (dk_at dksX5_rain_3 14 rfl rfl)
theorem dX5_rain_83 : decode cX5_rain 83 = .ok (.invokevirtual 177, 3) := dk_182 0 177 (dk_at dksX5_rain_3 15 rfl rfl)
theorem dX5_rain_86 : decode cX5_rain 86 = .ok (.iinc 4 1, 3) := dk_132 4 1 (dk_at dksX5_rain_3 18 rfl rfl)
theorem dX5_rain_89 : decode cX5_rain 89 = .ok (.goto (-31), 3) := dk_167 255 225 (dk_at dksX5_rain_3 21 rfl rfl)
theorem dX5_rain_92 : decode cX5_rain 92 = .ok (.aload_n 0, 1) := dk_42 (dk_at dksX5_rain_4 0 rfl rfl)
theorem dX5_rain_93 : decode cX5_rain 93 = .ok (.getfield 7, 3) := dk_180 0 7 (dk_at dksX5_rain_4 1 rfl rfl)
theorem dX5_rain_96 : decode cX5_rain 96 = .ok (.iconst 3, 1) := dk_6 (dk_at dksX5_rain_4 4 rfl rfl)
theorem dX5_rain_97 : decode cX5_rain 97 = .ok (.laload, 1) := dk_47 (dk_at dksX5_rain_4 5 rfl rfl)
theorem dX5_rain_98 : decode cX5_rain 98 = .ok (.lload_n 2, 1) := dk_32 (dk_at dksX5_rain_4 6 rfl rfl)
theorem dX5_rain_99 : decode cX5_rain 99 = .ok (.lsub, 1) := dk_101 (dk_at dksX5_rain_4 7 rfl rfl)
theorem dX5_rain_100 : decode cX5_rain 100 = .ok (.l2i, 1) := dk_136 (dk_at dksX5_rain_4 8 rfl rfl)
theorem dX5_rain_101 : decode cX5_rain 101 = .ok (.ireturn, 1) := dk_172 (dk_at dksX5_rain_4 9 rfl rfl)
abbrev cX5_evaporate : ByteArray := prog_13_method_60_code
def yX5_evaporate : MethodName := ⟨RX5, "evaporate", "(I)I"⟩
def dkwX5_evaporate_2 : List UInt8 := [167, 255, 243, 42, 180, 0, 7, 7, 47, 32, 101, 136, 172]
abbrev dktX5_evaporate_2 : List UInt8 := dkwX5_evaporate_2 ++ []
def dkwX5_evaporate_1 : List UInt8 := [42, 180, 0, 7, 7, 47, 65, 3, 54, 4, 21, 4, 27, 162, 0, 13, 42, 182, 0, 243, 132, 4, 1]
abbrev dktX5_evaporate_1 : List UInt8 := dkwX5_evaporate_1 ++ dktX5_evaporate_2
def dkwX5_evaporate_0 : List UInt8 := [42, 27, 133, 9, 20, 0, 241, 184, 0, 65, 4, 4, 182, 0, 183, 154, 0, 5, 3, 172, 42, 182, 0, 187]
abbrev dktX5_evaporate_0 : List UInt8 := dkwX5_evaporate_0 ++ dktX5_evaporate_1
theorem dksX5_evaporate_0 : cX5_evaporate.data.toList.drop 0 = dktX5_evaporate_0 := by decide +kernel
theorem dksX5_evaporate_1 : cX5_evaporate.data.toList.drop 24 = dktX5_evaporate_1 := dk_seg dksX5_evaporate_0 24 rfl rfl
theorem dksX5_evaporate_2 : cX5_evaporate.data.toList.drop 47 = dktX5_evaporate_2 := dk_seg dksX5_evaporate_1 23 rfl rfl
theorem dX5_evaporate_0 : decode cX5_evaporate 0 = .ok (.aload_n 0, 1) := dk_42 (dk_at dksX5_evaporate_0 0 rfl rfl)
theorem dX5_evaporate_1 : decode cX5_evaporate 1 = .ok (.iload_n 1, 1) := dk_27 (dk_at dksX5_evaporate_0 1 rfl rfl)
theorem dX5_evaporate_2 : decode cX5_evaporate 2 = .ok (.i2l, 1) := dk_133 (dk_at dksX5_evaporate_0 2 rfl rfl)
theorem dX5_evaporate_3 : decode cX5_evaporate 3 = .ok (.lconst 0, 1) := dk_9 (dk_at dksX5_evaporate_0 3 rfl rfl)
theorem dX5_evaporate_4 : decode cX5_evaporate 4 = .ok (.ldc2_w 241, 3) := dk_20 0 241 (dk_at dksX5_evaporate_0 4 rfl rfl)
theorem dX5_evaporate_7 : decode cX5_evaporate 7 = .ok (.invokestatic 65, 3) := dk_184 0 65 (dk_at dksX5_evaporate_0 7 rfl rfl)
theorem dX5_evaporate_10 : decode cX5_evaporate 10 = .ok (.iconst 1, 1) := dk_4 (dk_at dksX5_evaporate_0 10 rfl rfl)
theorem dX5_evaporate_11 : decode cX5_evaporate 11 = .ok (.iconst 1, 1) := dk_4 (dk_at dksX5_evaporate_0 11 rfl rfl)
theorem dX5_evaporate_12 : decode cX5_evaporate 12 = .ok (.invokevirtual 183, 3) := dk_182 0 183 (dk_at dksX5_evaporate_0 12 rfl rfl)
theorem dX5_evaporate_15 : decode cX5_evaporate 15 = .ok (.ifCond .ne 5, 3) := dk_154 0 5 (dk_at dksX5_evaporate_0 15 rfl rfl)
theorem dX5_evaporate_18 : decode cX5_evaporate 18 = .ok (.iconst 0, 1) := dk_3 (dk_at dksX5_evaporate_0 18 rfl rfl)
theorem dX5_evaporate_19 : decode cX5_evaporate 19 = .ok (.ireturn, 1) := dk_172 (dk_at dksX5_evaporate_0 19 rfl rfl)
theorem dX5_evaporate_20 : decode cX5_evaporate 20 = .ok (.aload_n 0, 1) := dk_42 (dk_at dksX5_evaporate_0 20 rfl rfl)
theorem dX5_evaporate_21 : decode cX5_evaporate 21 = .ok (.invokevirtual 187, 3) := dk_182 0 187 (dk_at dksX5_evaporate_0 21 rfl rfl)
theorem dX5_evaporate_24 : decode cX5_evaporate 24 = .ok (.aload_n 0, 1) := dk_42 (dk_at dksX5_evaporate_1 0 rfl rfl)
theorem dX5_evaporate_25 : decode cX5_evaporate 25 = .ok (.getfield 7, 3) := dk_180 0 7 (dk_at dksX5_evaporate_1 1 rfl rfl)
theorem dX5_evaporate_28 : decode cX5_evaporate 28 = .ok (.iconst 4, 1) := dk_7 (dk_at dksX5_evaporate_1 4 rfl rfl)
theorem dX5_evaporate_29 : decode cX5_evaporate 29 = .ok (.laload, 1) := dk_47 (dk_at dksX5_evaporate_1 5 rfl rfl)
theorem dX5_evaporate_30 : decode cX5_evaporate 30 = .ok (.lstore_n 2, 1) := dk_65 (dk_at dksX5_evaporate_1 6 rfl rfl)
theorem dX5_evaporate_31 : decode cX5_evaporate 31 = .ok (.iconst 0, 1) := dk_3 (dk_at dksX5_evaporate_1 7 rfl rfl)
theorem dX5_evaporate_32 : decode cX5_evaporate 32 = .ok (.istore 4, 2) := dk_54 4 (dk_at dksX5_evaporate_1 8 rfl rfl)
theorem dX5_evaporate_34 : decode cX5_evaporate 34 = .ok (.iload 4, 2) := dk_21 4 (dk_at dksX5_evaporate_1 10 rfl rfl)
theorem dX5_evaporate_36 : decode cX5_evaporate 36 = .ok (.iload_n 1, 1) := dk_27 (dk_at dksX5_evaporate_1 12 rfl rfl)
theorem dX5_evaporate_37 : decode cX5_evaporate 37 = .ok (.if_icmp .ge 13, 3) := dk_162 0 13 (dk_at dksX5_evaporate_1 13 rfl rfl)
theorem dX5_evaporate_40 : decode cX5_evaporate 40 = .ok (.aload_n 0, 1) := dk_42 (dk_at dksX5_evaporate_1 16 rfl rfl)
theorem dX5_evaporate_41 : decode cX5_evaporate 41 = .ok (.invokevirtual 243, 3) := dk_182 0 243 (dk_at dksX5_evaporate_1 17 rfl rfl)
theorem dX5_evaporate_44 : decode cX5_evaporate 44 = .ok (.iinc 4 1, 3) := dk_132 4 1 (dk_at dksX5_evaporate_1 20 rfl rfl)
theorem dX5_evaporate_47 : decode cX5_evaporate 47 = .ok (.goto (-13), 3) := dk_167 255 243 (dk_at dksX5_evaporate_2 0 rfl rfl)
theorem dX5_evaporate_50 : decode cX5_evaporate 50 = .ok (.aload_n 0, 1) := dk_42 (dk_at dksX5_evaporate_2 3 rfl rfl)
theorem dX5_evaporate_51 : decode cX5_evaporate 51 = .ok (.getfield 7, 3) := dk_180 0 7 (dk_at dksX5_evaporate_2 4 rfl rfl)
theorem dX5_evaporate_54 : decode cX5_evaporate 54 = .ok (.iconst 4, 1) := dk_7 (dk_at dksX5_evaporate_2 7 rfl rfl)
theorem dX5_evaporate_55 : decode cX5_evaporate 55 = .ok (.laload, 1) := dk_47 (dk_at dksX5_evaporate_2 8 rfl rfl)
theorem dX5_evaporate_56 : decode cX5_evaporate 56 = .ok (.lload_n 2, 1) := dk_32 (dk_at dksX5_evaporate_2 9 rfl rfl)
theorem dX5_evaporate_57 : decode cX5_evaporate 57 = .ok (.lsub, 1) := dk_101 (dk_at dksX5_evaporate_2 10 rfl rfl)
theorem dX5_evaporate_58 : decode cX5_evaporate 58 = .ok (.l2i, 1) := dk_136 (dk_at dksX5_evaporate_2 11 rfl rfl)
theorem dX5_evaporate_59 : decode cX5_evaporate 59 = .ok (.ireturn, 1) := dk_172 (dk_at dksX5_evaporate_2 12 rfl rfl)
abbrev cX5_evaporates : ByteArray := prog_13_method_59_code
def yX5_evaporates : MethodName := ⟨RX5, "evaporates", "()V"⟩
def dkwX5_evaporates_5 : List UInt8 := [167, 255, 232, 177]
abbrev dktX5_evaporates_5 : List UInt8 := dkwX5_evaporates_5 ++ []
def dkwX5_evaporates_4 : List UInt8 := [162, 0, 25, 42, 42, 180, 0, 38, 28, 46, 42, 180, 0, 41, 28, 47, 182, 0, 238, 132, 2, 1]
abbrev dktX5_evaporates_4 : List UInt8 := dkwX5_evaporates_4 ++ dktX5_evaporates_5
def dkwX5_evaporates_3 : List UInt8 := [22, 5, 148, 156, 0, 7, 33, 167, 0, 5, 22, 5, 80, 132, 2, 1, 167, 255, 179, 3, 61, 28, 27]
abbrev dktX5_evaporates_3 : List UInt8 := dkwX5_evaporates_3 ++ dktX5_evaporates_4
def dkwX5_evaporates_2 : List UInt8 := [28, 46, 96, 47, 55, 5, 42, 180, 0, 38, 28, 42, 180, 0, 29, 28, 46, 79, 42, 180, 0, 41, 28, 33]
abbrev dktX5_evaporates_2 : List UInt8 := dkwX5_evaporates_2 ++ dktX5_evaporates_3
def dkwX5_evaporates_1 : List UInt8 := [42, 180, 0, 29, 28, 46, 96, 47, 182, 0, 168, 133, 66, 42, 180, 0, 7, 17, 0, 224, 42, 180, 0, 29]
abbrev dktX5_evaporates_1 : List UInt8 := dkwX5_evaporates_1 ++ dktX5_evaporates_2
def dkwX5_evaporates_0 : List UInt8 := [42, 182, 0, 152, 42, 180, 0, 149, 60, 3, 61, 28, 27, 162, 0, 78, 42, 42, 180, 0, 7, 17, 0, 152]
abbrev dktX5_evaporates_0 : List UInt8 := dkwX5_evaporates_0 ++ dktX5_evaporates_1
theorem dksX5_evaporates_0 : cX5_evaporates.data.toList.drop 0 = dktX5_evaporates_0 := by decide +kernel
theorem dksX5_evaporates_1 : cX5_evaporates.data.toList.drop 24 = dktX5_evaporates_1 := dk_seg dksX5_evaporates_0 24 rfl rfl
theorem dksX5_evaporates_2 : cX5_evaporates.data.toList.drop 48 = dktX5_evaporates_2 := dk_seg dksX5_evaporates_1 24 rfl rfl
theorem dksX5_evaporates_3 : cX5_evaporates.data.toList.drop 72 = dktX5_evaporates_3 := dk_seg dksX5_evaporates_2 24 rfl rfl
theorem dksX5_evaporates_4 : cX5_evaporates.data.toList.drop 95 = dktX5_evaporates_4 := dk_seg dksX5_evaporates_3 23 rfl rfl
theorem dksX5_evaporates_5 : cX5_evaporates.data.toList.drop 117 = dktX5_evaporates_5 := dk_seg dksX5_evaporates_4 22 rfl rfl
theorem dX5_evaporates_0 : decode cX5_evaporates 0 = .ok (.aload_n 0, 1) := dk_42 (dk_at dksX5_evaporates_0 0 rfl rfl)
theorem dX5_evaporates_1 : decode cX5_evaporates 1 = .ok (.invokevirtual 152, 3) := dk_182 0 152 (dk_at dksX5_evaporates_0 1 rfl rfl)
theorem dX5_evaporates_4 : decode cX5_evaporates 4 = .ok (.aload_n 0, 1) := dk_42 (dk_at dksX5_evaporates_0 4 rfl rfl)
theorem dX5_evaporates_5 : decode cX5_evaporates 5 = .ok (.getfield 149, 3) := dk_180 0 149 (dk_at dksX5_evaporates_0 5 rfl rfl)
theorem dX5_evaporates_8 : decode cX5_evaporates 8 = .ok (.istore_n 1, 1) := dk_60 (dk_at dksX5_evaporates_0 8 rfl rfl)
theorem dX5_evaporates_9 : decode cX5_evaporates 9 = .ok (.iconst 0, 1) := dk_3 (dk_at dksX5_evaporates_0 9 rfl rfl)
theorem dX5_evaporates_10 : decode cX5_evaporates 10 = .ok (.istore_n 2, 1) := dk_61 (dk_at dksX5_evaporates_0 10 rfl rfl)
theorem dX5_evaporates_11 : decode cX5_evaporates 11 = .ok (.iload_n 2, 1) := dk_28 (dk_at dksX5_evaporates_0 11 rfl rfl)
theorem dX5_evaporates_12 : decode cX5_evaporates 12 = .ok (.iload_n 1, 1) := dk_27 (dk_at dksX5_evaporates_0 12 rfl rfl)
theorem dX5_evaporates_13 : decode cX5_evaporates 13 = .ok (.if_icmp .ge 78, 3) := dk_162 0 78 (dk_at dksX5_evaporates_0 13 rfl rfl)
theorem dX5_evaporates_16 : decode cX5_evaporates 16 = .ok (.aload_n 0, 1) := dk_42 (dk_at dksX5_evaporates_0 16 rfl rfl)
theorem dX5_evaporates_17 : decode cX5_evaporates 17 = .ok (.aload_n 0, 1) := dk_42 (dk_at dksX5_evaporates_0 17 rfl rfl)
theorem dX5_evaporates_18 : decode cX5_evaporates 18 = .ok (.getfield 7, 3) := dk_180 0 7 (dk_at dksX5_evaporates_0 18 rfl rfl)
theorem dX5_evaporates_21 : decode cX5_evaporates 21 = .ok (.sipush 152, 3) := dk_17 0 152 (dk_at dksX5_evaporates_0 21 rfl rfl)
theorem dX5_evaporates_24 : decode cX5_evaporates 24 = .ok (.aload_n 0, 1) := dk_42 (dk_at dksX5_evaporates_1 0 rfl rfl)
theorem dX5_evaporates_25 : decode cX5_evaporates 25 = .ok (.getfield 29, 3) := dk_180 0 29 (dk_at dksX5_evaporates_1 1 rfl rfl)
theorem dX5_evaporates_28 : decode cX5_evaporates 28 = .ok (.iload_n 2, 1) := dk_28 (dk_at dksX5_evaporates_1 4 rfl rfl)
theorem dX5_evaporates_29 : decode cX5_evaporates 29 = .ok (.iaload, 1) := dk_46 (dk_at dksX5_evaporates_1 5 rfl rfl)
theorem dX5_evaporates_30 : decode cX5_evaporates 30 = .ok (.iadd, 1) := dk_96 (dk_at dksX5_evaporates_1 6 rfl rfl)
theorem dX5_evaporates_31 : decode cX5_evaporates 31 = .ok (.laload, 1) := dk_47 (dk_at dksX5_evaporates_1 7 rfl rfl)
theorem dX5_evaporates_32 : decode cX5_evaporates 32 = .ok (.invokevirtual 168, 3) := dk_182 0 168 (dk_at dksX5_evaporates_1 8 rfl rfl)
theorem dX5_evaporates_35 : decode cX5_evaporates 35 = .ok (.i2l, 1) := dk_133 (dk_at dksX5_evaporates_1 11 rfl rfl)
theorem dX5_evaporates_36 : decode cX5_evaporates 36 = .ok (.lstore_n 3, 1) := dk_66 (dk_at dksX5_evaporates_1 12 rfl rfl)
theorem dX5_evaporates_37 : decode cX5_evaporates 37 = .ok (.aload_n 0, 1) := dk_42 (dk_at dksX5_evaporates_1 13 rfl rfl)
theorem dX5_evaporates_38 : decode cX5_evaporates 38 = .ok (.getfield 7, 3) := dk_180 0 7 (dk_at dksX5_evaporates_1 14 rfl rfl)
theorem dX5_evaporates_41 : decode cX5_evaporates 41 = .ok (.sipush 224, 3) := dk_17 0 224 (dk_at dksX5_evaporates_1 17 rfl rfl)
theorem dX5_evaporates_44 : decode cX5_evaporates 44 = .ok (.aload_n 0, 1) := dk_42 (dk_at dksX5_evaporates_1 20 rfl rfl)
theorem dX5_evaporates_45 : decode cX5_evaporates 45 = .ok (.getfield 29, 3) := dk_180 0 29 (dk_at dksX5_evaporates_1 21 rfl rfl)
theorem dX5_evaporates_48 : decode cX5_evaporates 48 = .ok (.iload_n 2, 1) := dk_28 (dk_at dksX5_evaporates_2 0 rfl rfl)
theorem dX5_evaporates_49 : decode cX5_evaporates 49 = .ok (.iaload, 1) := dk_46 (dk_at dksX5_evaporates_2 1 rfl rfl)
theorem dX5_evaporates_50 : decode cX5_evaporates 50 = .ok (.iadd, 1) := dk_96 (dk_at dksX5_evaporates_2 2 rfl rfl)
theorem dX5_evaporates_51 : decode cX5_evaporates 51 = .ok (.laload, 1) := dk_47 (dk_at dksX5_evaporates_2 3 rfl rfl)
theorem dX5_evaporates_52 : decode cX5_evaporates 52 = .ok (.lstore 5, 2) := dk_55 5 (dk_at dksX5_evaporates_2 4 rfl rfl)
theorem dX5_evaporates_54 : decode cX5_evaporates 54 = .ok (.aload_n 0, 1) := dk_42 (dk_at dksX5_evaporates_2 6 rfl rfl)
theorem dX5_evaporates_55 : decode cX5_evaporates 55 = .ok (.getfield 38, 3) := dk_180 0 38 (dk_at dksX5_evaporates_2 7 rfl rfl)
theorem dX5_evaporates_58 : decode cX5_evaporates 58 = .ok (.iload_n 2, 1) := dk_28 (dk_at dksX5_evaporates_2 10 rfl rfl)
theorem dX5_evaporates_59 : decode cX5_evaporates 59 = .ok (.aload_n 0, 1) := dk_42 (dk_at dksX5_evaporates_2 11 rfl rfl)
theorem dX5_evaporates_60 : decode cX5_evaporates 60 = .ok (.getfield 29, 3) := dk_180 0 29 (dk_at dksX5_evaporates_2 12 rfl rfl)
theorem dX5_evaporates_63 : decode cX5_evaporates 63 = .ok (.iload_n 2, 1) := dk_28 (dk_at dksX5_evaporates_2 15 rfl rfl)
theorem dX5_evaporates_64 : decode cX5_evaporates 64 = .ok (.iaload, 1) := dk_46 (dk_at dksX5_evaporates_2 16 rfl rfl)
theorem dX5_evaporates_65 : decode cX5_evaporates 65 = .ok (.iastore, 1) := dk_79 (dk_at dksX5_evaporates_2 17 rfl rfl)
theorem dX5_evaporates_66 : decode cX5_evaporates 66 = .ok (.aload_n 0, 1) := dk_42 (dk_at dksX5_evaporates_2 18 rfl rfl)
theorem dX5_evaporates_67 : decode cX5_evaporates 67 = .ok (.getfield 41, 3) := dk_180 0 41 (dk_at dksX5_evaporates_2 19 rfl rfl)
theorem dX5_evaporates_70 : decode cX5_evaporates 70 = .ok (.iload_n 2, 1) := dk_28 (dk_at dksX5_evaporates_2 22 rfl rfl)
theorem dX5_evaporates_71 : decode cX5_evaporates 71 = .ok (.lload_n 3, 1) := dk_33 (dk_at dksX5_evaporates_2 23 rfl rfl)
theorem dX5_evaporates_72 : decode cX5_evaporates 72 = .ok (.lload 5, 2) := dk_22 5 (dk_at dksX5_evaporates_3 0 rfl rfl)
theorem dX5_evaporates_74 : decode cX5_evaporates 74 = .ok (.lcmp, 1) := dk_148 (dk_at dksX5_evaporates_3 2 rfl rfl)
theorem dX5_evaporates_75 : decode cX5_evaporates 75 = .ok (.ifCond .ge 7, 3) := dk_156 0 7 (dk_at dksX5_evaporates_3 3 rfl rfl)
theorem dX5_evaporates_78 : decode cX5_evaporates 78 = .ok (.lload_n 3, 1) := dk_33 (dk_at dksX5_evaporates_3 6 rfl rfl)
theorem dX5_evaporates_79 : decode cX5_evaporates 79 = .ok (.goto 5, 3) := dk_167 0 5 (dk_at dksX5_evaporates_3 7 rfl rfl)
theorem dX5_evaporates_82 : decode cX5_evaporates 82 = .ok (.lload 5, 2) := dk_22 5 (dk_at dksX5_evaporates_3 10 rfl rfl)
theorem dX5_evaporates_84 : decode cX5_evaporates 84 = .ok (.lastore, 1) := dk_80 (dk_at dksX5_evaporates_3 12 rfl rfl)
theorem dX5_evaporates_85 : decode cX5_evaporates 85 = .ok (.iinc 2 1, 3) := dk_132 2 1 (dk_at dksX5_evaporates_3 13 rfl rfl)
theorem dX5_evaporates_88 : decode cX5_evaporates 88 = .ok (.goto (-77), 3) := dk_167 255 179 (dk_at dksX5_evaporates_3 16 rfl rfl)
theorem dX5_evaporates_91 : decode cX5_evaporates 91 = .ok (.iconst 0, 1) := dk_3 (dk_at dksX5_evaporates_3 19 rfl rfl)
theorem dX5_evaporates_92 : decode cX5_evaporates 92 = .ok (.istore_n 2, 1) := dk_61 (dk_at dksX5_evaporates_3 20 rfl rfl)
theorem dX5_evaporates_93 : decode cX5_evaporates 93 = .ok (.iload_n 2, 1) := dk_28 (dk_at dksX5_evaporates_3 21 rfl rfl)
theorem dX5_evaporates_94 : decode cX5_evaporates 94 = .ok (.iload_n 1, 1) := dk_27 (dk_at dksX5_evaporates_3 22 rfl rfl)
theorem dX5_evaporates_95 : decode cX5_evaporates 95 = .ok (.if_icmp .ge 25, 3) := dk_162 0 25 (dk_at dksX5_evaporates_4 0 rfl rfl)
theorem dX5_evaporates_98 : decode cX5_evaporates 98 = .ok (.aload_n 0, 1) := dk_42 (dk_at dksX5_evaporates_4 3 rfl rfl)
theorem dX5_evaporates_99 : decode cX5_evaporates 99 = .ok (.aload_n 0, 1) := dk_42 (dk_at dksX5_evaporates_4 4 rfl rfl)
theorem dX5_evaporates_100 : decode cX5_evaporates 100 = .ok (.getfield 38, 3) := dk_180 0 38 (dk_at dksX5_evaporates_4 5 rfl rfl)
theorem dX5_evaporates_103 : decode cX5_evaporates 103 = .ok (.iload_n 2, 1) := dk_28 (dk_at dksX5_evaporates_4 8 rfl rfl)
theorem dX5_evaporates_104 : decode cX5_evaporates 104 = .ok (.iaload, 1) := dk_46 (dk_at dksX5_evaporates_4 9 rfl rfl)
theorem dX5_evaporates_105 : decode cX5_evaporates 105 = .ok (.aload_n 0, 1) := dk_42 (dk_at dksX5_evaporates_4 10 rfl rfl)
theorem dX5_evaporates_106 : decode cX5_evaporates 106 = .ok (.getfield 41, 3) := dk_180 0 41 (dk_at dksX5_evaporates_4 11 rfl rfl)
theorem dX5_evaporates_109 : decode cX5_evaporates 109 = .ok (.iload_n 2, 1) := dk_28 (dk_at dksX5_evaporates_4 14 rfl rfl)
theorem dX5_evaporates_110 : decode cX5_evaporates 110 = .ok (.laload, 1) := dk_47 (dk_at dksX5_evaporates_4 15 rfl rfl)
theorem dX5_evaporates_111 : decode cX5_evaporates 111 = .ok (.invokevirtual 238, 3) := dk_182 0 238 (dk_at dksX5_evaporates_4 16 rfl rfl)
theorem dX5_evaporates_114 : decode cX5_evaporates 114 = .ok (.iinc 2 1, 3) := dk_132 2 1 (dk_at dksX5_evaporates_4 19 rfl rfl)
theorem dX5_evaporates_117 : decode cX5_evaporates 117 = .ok (.goto (-24), 3) := dk_167 255 232 (dk_at dksX5_evaporates_5 0 rfl rfl)
theorem dX5_evaporates_120 : decode cX5_evaporates 120 = .ok (.return_, 1) := dk_177 (dk_at dksX5_evaporates_5 3 rfl rfl)
abbrev cX5_takes : ByteArray := prog_13_method_31_code
def yX5_takes : MethodName := ⟨RX5, "takes", "(IJ)V"⟩
def dkwX5_takes_12 : List UInt8 := [7, 92, 47, 32, 97, 80, 177]
abbrev dktX5_takes_12 : List UInt8 := dkwX5_takes_12 ++ []
def dkwX5_takes_11 : List UInt8 := [21, 14, 79, 42, 180, 0, 26, 21, 4, 4, 96, 22, 15, 80, 132, 4, 2, 167, 254, 255, 42, 180, 0, 7]
abbrev dktX5_takes_11 : List UInt8 := dkwX5_takes_11 ++ dktX5_takes_12
def dkwX5_takes_10 : List UInt8 := [21, 14, 100, 79, 42, 180, 0, 26, 21, 4, 22, 10, 22, 15, 101, 80, 42, 180, 0, 22, 21, 4, 4, 96]
abbrev dktX5_takes_10 : List UInt8 := dkwX5_takes_10 ++ dktX5_takes_11
def dkwX5_takes_9 : List UInt8 := [42, 180, 0, 7, 17, 0, 224, 21, 14, 96, 47, 55, 15, 42, 180, 0, 22, 21, 4, 21, 12, 21, 13, 96]
abbrev dktX5_takes_9 : List UInt8 := dkwX5_takes_9 ++ dktX5_takes_10
def dkwX5_takes_8 : List UInt8 := [54, 14, 22, 10, 42, 180, 0, 7, 17, 0, 224, 21, 14, 96, 47, 148, 156, 0, 8, 22, 10, 167, 0, 14]
abbrev dktX5_takes_8 : List UInt8 := dkwX5_takes_8 ++ dktX5_takes_9
def dkwX5_takes_7 : List UInt8 := [180, 0, 7, 17, 0, 152, 21, 13, 96, 47, 184, 0, 111, 162, 0, 8, 21, 12, 167, 0, 5, 21, 13]
abbrev dktX5_takes_7 : List UInt8 := dkwX5_takes_7 ++ dktX5_takes_8
def dkwX5_takes_6 : List UInt8 := [21, 12, 21, 13, 182, 0, 145, 42, 180, 0, 7, 17, 0, 152, 21, 12, 96, 47, 184, 0, 111, 42]
abbrev dktX5_takes_6 : List UInt8 := dkwX5_takes_6 ++ dktX5_takes_7
def dkwX5_takes_5 : List UInt8 := [21, 5, 96, 47, 136, 54, 12, 42, 180, 0, 7, 17, 1, 112, 21, 5, 96, 47, 136, 54, 13, 42, 21, 5]
abbrev dktX5_takes_5 : List UInt8 := dkwX5_takes_5 ++ dktX5_takes_6
def dkwX5_takes_4 : List UInt8 := [42, 180, 0, 7, 17, 0, 224, 21, 5, 96, 47, 22, 8, 101, 101, 55, 10, 42, 180, 0, 7, 17, 1, 40]
abbrev dktX5_takes_4 : List UInt8 := dkwX5_takes_4 ++ dktX5_takes_5
def dkwX5_takes_3 : List UInt8 := [155, 0, 22, 42, 180, 0, 7, 17, 0, 224, 21, 5, 96, 92, 47, 22, 6, 101, 80, 167, 0, 187, 22, 6]
abbrev dktX5_takes_3 : List UInt8 := dkwX5_takes_3 ++ dktX5_takes_4
def dkwX5_takes_2 : List UInt8 := [182, 0, 142, 55, 8, 42, 180, 0, 7, 17, 0, 224, 21, 5, 96, 47, 22, 6, 101, 22, 8, 148]
abbrev dktX5_takes_2 : List UInt8 := dkwX5_takes_2 ++ dktX5_takes_3
def dkwX5_takes_1 : List UInt8 := [132, 4, 255, 42, 180, 0, 22, 21, 4, 46, 54, 5, 42, 180, 0, 26, 21, 4, 47, 55, 6, 42, 21, 5]
abbrev dktX5_takes_1 : List UInt8 := dkwX5_takes_1 ++ dktX5_takes_2
def dkwX5_takes_0 : List UInt8 := [4, 54, 4, 42, 180, 0, 22, 3, 27, 79, 42, 180, 0, 26, 3, 32, 80, 21, 4, 158, 1, 2]
abbrev dktX5_takes_0 : List UInt8 := dkwX5_takes_0 ++ dktX5_takes_1
theorem dksX5_takes_0 : cX5_takes.data.toList.drop 0 = dktX5_takes_0 := by decide +kernel
theorem dksX5_takes_1 : cX5_takes.data.toList.drop 22 = dktX5_takes_1 := dk_seg dksX5_takes_0 22 rfl rfl
theorem dksX5_takes_2 : cX5_takes.data.toList.drop 46 = dktX5_takes_2 := dk_seg dksX5_takes_1 24 rfl rfl
theorem dksX5_takes_3 : cX5_takes.data.toList.drop 68 = dktX5_takes_3 := dk_seg dksX5_takes_2 22 rfl rfl
theorem dksX5_takes_4 : cX5_takes.data.toList.drop 92 = dktX5_takes_4 := dk_seg dksX5_takes_3 24 rfl rfl
theorem dksX5_takes_5 : cX5_takes.data.toList.drop 116 = dktX5_takes_5 := dk_seg dksX5_takes_4 24 rfl rfl
theorem dksX5_takes_6 : cX5_takes.data.toList.drop 140 = dktX5_takes_6 := dk_seg dksX5_takes_5 24 rfl rfl
theorem dksX5_takes_7 : cX5_takes.data.toList.drop 162 = dktX5_takes_7 := dk_seg dksX5_takes_6 22 rfl rfl
theorem dksX5_takes_8 : cX5_takes.data.toList.drop 185 = dktX5_takes_8 := dk_seg dksX5_takes_7 23 rfl rfl
theorem dksX5_takes_9 : cX5_takes.data.toList.drop 209 = dktX5_takes_9 := dk_seg dksX5_takes_8 24 rfl rfl
theorem dksX5_takes_10 : cX5_takes.data.toList.drop 233 = dktX5_takes_10 := dk_seg dksX5_takes_9 24 rfl rfl
theorem dksX5_takes_11 : cX5_takes.data.toList.drop 257 = dktX5_takes_11 := dk_seg dksX5_takes_10 24 rfl rfl
theorem dksX5_takes_12 : cX5_takes.data.toList.drop 281 = dktX5_takes_12 := dk_seg dksX5_takes_11 24 rfl rfl
theorem dX5_takes_0 : decode cX5_takes 0 = .ok (.iconst 1, 1) := dk_4 (dk_at dksX5_takes_0 0 rfl rfl)
theorem dX5_takes_1 : decode cX5_takes 1 = .ok (.istore 4, 2) := dk_54 4 (dk_at dksX5_takes_0 1 rfl rfl)
theorem dX5_takes_3 : decode cX5_takes 3 = .ok (.aload_n 0, 1) := dk_42 (dk_at dksX5_takes_0 3 rfl rfl)
theorem dX5_takes_4 : decode cX5_takes 4 = .ok (.getfield 22, 3) := dk_180 0 22 (dk_at dksX5_takes_0 4 rfl rfl)
theorem dX5_takes_7 : decode cX5_takes 7 = .ok (.iconst 0, 1) := dk_3 (dk_at dksX5_takes_0 7 rfl rfl)
theorem dX5_takes_8 : decode cX5_takes 8 = .ok (.iload_n 1, 1) := dk_27 (dk_at dksX5_takes_0 8 rfl rfl)
theorem dX5_takes_9 : decode cX5_takes 9 = .ok (.iastore, 1) := dk_79 (dk_at dksX5_takes_0 9 rfl rfl)
theorem dX5_takes_10 : decode cX5_takes 10 = .ok (.aload_n 0, 1) := dk_42 (dk_at dksX5_takes_0 10 rfl rfl)
theorem dX5_takes_11 : decode cX5_takes 11 = .ok (.getfield 26, 3) := dk_180 0 26 (dk_at dksX5_takes_0 11 rfl rfl)
theorem dX5_takes_14 : decode cX5_takes 14 = .ok (.iconst 0, 1) := dk_3 (dk_at dksX5_takes_0 14 rfl rfl)
theorem dX5_takes_15 : decode cX5_takes 15 = .ok (.lload_n 2, 1) := dk_32 (dk_at dksX5_takes_0 15 rfl rfl)
theorem dX5_takes_16 : decode cX5_takes 16 = .ok (.lastore, 1) := dk_80 (dk_at dksX5_takes_0 16 rfl rfl)
theorem dX5_takes_17 : decode cX5_takes 17 = .ok (.iload 4, 2) := dk_21 4 (dk_at dksX5_takes_0 17 rfl rfl)
theorem dX5_takes_19 : decode cX5_takes 19 = .ok (.ifCond .le 258, 3) := dk_158 1 2 (dk_at dksX5_takes_0 19 rfl rfl)
theorem dX5_takes_22 : decode cX5_takes 22 = .ok (.iinc 4 (-1), 3) := dk_132 4 255 (dk_at dksX5_takes_1 0 rfl rfl)
theorem dX5_takes_25 : decode cX5_takes 25 = .ok (.aload_n 0, 1) := dk_42 (dk_at dksX5_takes_1 3 rfl rfl)
theorem dX5_takes_26 : decode cX5_takes 26 = .ok (.getfield 22, 3) := dk_180 0 22 (dk_at dksX5_takes_1 4 rfl rfl)
theorem dX5_takes_29 : decode cX5_takes 29 = .ok (.iload 4, 2) := dk_21 4 (dk_at dksX5_takes_1 7 rfl rfl)
theorem dX5_takes_31 : decode cX5_takes 31 = .ok (.iaload, 1) := dk_46 (dk_at dksX5_takes_1 9 rfl rfl)
theorem dX5_takes_32 : decode cX5_takes 32 = .ok (.istore 5, 2) := dk_54 5 (dk_at dksX5_takes_1 10 rfl rfl)
theorem dX5_takes_34 : decode cX5_takes 34 = .ok (.aload_n 0, 1) := dk_42 (dk_at dksX5_takes_1 12 rfl rfl)
theorem dX5_takes_35 : decode cX5_takes 35 = .ok (.getfield 26, 3) := dk_180 0 26 (dk_at dksX5_takes_1 13 rfl rfl)
theorem dX5_takes_38 : decode cX5_takes 38 = .ok (.iload 4, 2) := dk_21 4 (dk_at dksX5_takes_1 16 rfl rfl)
theorem dX5_takes_40 : decode cX5_takes 40 = .ok (.laload, 1) := dk_47 (dk_at dksX5_takes_1 18 rfl rfl)
theorem dX5_takes_41 : decode cX5_takes 41 = .ok (.lstore 6, 2) := dk_55 6 (dk_at dksX5_takes_1 19 rfl rfl)
theorem dX5_takes_43 : decode cX5_takes 43 = .ok (.aload_n 0, 1) := dk_42 (dk_at dksX5_takes_1 21 rfl rfl)
theorem dX5_takes_44 : decode cX5_takes 44 = .ok (.iload 5, 2) := dk_21 5 (dk_at dksX5_takes_1 22 rfl rfl)
theorem dX5_takes_46 : decode cX5_takes 46 = .ok (.invokevirtual 142, 3) := dk_182 0 142 (dk_at dksX5_takes_2 0 rfl rfl)
theorem dX5_takes_49 : decode cX5_takes 49 = .ok (.lstore 8, 2) := dk_55 8 (dk_at dksX5_takes_2 3 rfl rfl)
theorem dX5_takes_51 : decode cX5_takes 51 = .ok (.aload_n 0, 1) := dk_42 (dk_at dksX5_takes_2 5 rfl rfl)
theorem dX5_takes_52 : decode cX5_takes 52 = .ok (.getfield 7, 3) := dk_180 0 7 (dk_at dksX5_takes_2 6 rfl rfl)
theorem dX5_takes_55 : decode cX5_takes 55 = .ok (.sipush 224, 3) := dk_17 0 224 (dk_at dksX5_takes_2 9 rfl rfl)
theorem dX5_takes_58 : decode cX5_takes 58 = .ok (.iload 5, 2) := dk_21 5 (dk_at dksX5_takes_2 12 rfl rfl)
theorem dX5_takes_60 : decode cX5_takes 60 = .ok (.iadd, 1) := dk_96 (dk_at dksX5_takes_2 14 rfl rfl)
theorem dX5_takes_61 : decode cX5_takes 61 = .ok (.laload, 1) := dk_47 (dk_at dksX5_takes_2 15 rfl rfl)
theorem dX5_takes_62 : decode cX5_takes 62 = .ok (.lload 6, 2) := dk_22 6 (dk_at dksX5_takes_2 16 rfl rfl)
theorem dX5_takes_64 : decode cX5_takes 64 = .ok (.lsub, 1) := dk_101 (dk_at dksX5_takes_2 18 rfl rfl)
theorem dX5_takes_65 : decode cX5_takes 65 = .ok (.lload 8, 2) := dk_22 8 (dk_at dksX5_takes_2 19 rfl rfl)
theorem dX5_takes_67 : decode cX5_takes 67 = .ok (.lcmp, 1) := dk_148 (dk_at dksX5_takes_2 21 rfl rfl)
theorem dX5_takes_68 : decode cX5_takes 68 = .ok (.ifCond .lt 22, 3) := dk_155 0 22 (dk_at dksX5_takes_3 0 rfl rfl)
theorem dX5_takes_71 : decode cX5_takes 71 = .ok (.aload_n 0, 1) := dk_42 (dk_at dksX5_takes_3 3 rfl rfl)
theorem dX5_takes_72 : decode cX5_takes 72 = .ok (.getfield 7, 3) := dk_180 0 7 (dk_at dksX5_takes_3 4 rfl rfl)
theorem dX5_takes_75 : decode cX5_takes 75 = .ok (.sipush 224, 3) := dk_17 0 224 (dk_at dksX5_takes_3 7 rfl rfl)
theorem dX5_takes_78 : decode cX5_takes 78 = .ok (.iload 5, 2) := dk_21 5 (dk_at dksX5_takes_3 10 rfl rfl)
theorem dX5_takes_80 : decode cX5_takes 80 = .ok (.iadd, 1) := dk_96 (dk_at dksX5_takes_3 12 rfl rfl)
theorem dX5_takes_81 : decode cX5_takes 81 = .ok (.dup2, 1) := dk_92 (dk_at dksX5_takes_3 13 rfl rfl)
theorem dX5_takes_82 : decode cX5_takes 82 = .ok (.laload, 1) := dk_47 (dk_at dksX5_takes_3 14 rfl rfl)
theorem dX5_takes_83 : decode cX5_takes 83 = .ok (.lload 6, 2) := dk_22 6 (dk_at dksX5_takes_3 15 rfl rfl)
theorem dX5_takes_85 : decode cX5_takes 85 = .ok (.lsub, 1) := dk_101 (dk_at dksX5_takes_3 17 rfl rfl)
theorem dX5_takes_86 : decode cX5_takes 86 = .ok (.lastore, 1) := dk_80 (dk_at dksX5_takes_3 18 rfl rfl)
theorem dX5_takes_87 : decode cX5_takes 87 = .ok (.goto 187, 3) := dk_167 0 187 (dk_at dksX5_takes_3 19 rfl rfl)
theorem dX5_takes_90 : decode cX5_takes 90 = .ok (.lload 6, 2) := dk_22 6 (dk_at dksX5_takes_3 22 rfl rfl)
theorem dX5_takes_92 : decode cX5_takes 92 = .ok (.aload_n 0, 1) := dk_42 (dk_at dksX5_takes_4 0 rfl rfl)
theorem dX5_takes_93 : decode cX5_takes 93 = .ok (.getfield 7, 3) := dk_180 0 7 (dk_at dksX5_takes_4 1 rfl rfl)
theorem dX5_takes_96 : decode cX5_takes 96 = .ok (.sipush 224, 3) := dk_17 0 224 (dk_at dksX5_takes_4 4 rfl rfl)
theorem dX5_takes_99 : decode cX5_takes 99 = .ok (.iload 5, 2) := dk_21 5 (dk_at dksX5_takes_4 7 rfl rfl)
theorem dX5_takes_101 : decode cX5_takes 101 = .ok (.iadd, 1) := dk_96 (dk_at dksX5_takes_4 9 rfl rfl)
theorem dX5_takes_102 : decode cX5_takes 102 = .ok (.laload, 1) := dk_47 (dk_at dksX5_takes_4 10 rfl rfl)
theorem dX5_takes_103 : decode cX5_takes 103 = .ok (.lload 8, 2) := dk_22 8 (dk_at dksX5_takes_4 11 rfl rfl)
theorem dX5_takes_105 : decode cX5_takes 105 = .ok (.lsub, 1) := dk_101 (dk_at dksX5_takes_4 13 rfl rfl)
theorem dX5_takes_106 : decode cX5_takes 106 = .ok (.lsub, 1) := dk_101 (dk_at dksX5_takes_4 14 rfl rfl)
theorem dX5_takes_107 : decode cX5_takes 107 = .ok (.lstore 10, 2) := dk_55 10 (dk_at dksX5_takes_4 15 rfl rfl)
theorem dX5_takes_109 : decode cX5_takes 109 = .ok (.aload_n 0, 1) := dk_42 (dk_at dksX5_takes_4 17 rfl rfl)
theorem dX5_takes_110 : decode cX5_takes 110 = .ok (.getfield 7, 3) := dk_180 0 7 (dk_at dksX5_takes_4 18 rfl rfl)
theorem dX5_takes_113 : decode cX5_takes 113 = .ok (.sipush 296, 3) := dk_17 1 40 (dk_at dksX5_takes_4 21 rfl rfl)
theorem dX5_takes_116 : decode cX5_takes 116 = .ok (.iload 5, 2) := dk_21 5 (dk_at dksX5_takes_5 0 rfl rfl)
theorem dX5_takes_118 : decode cX5_takes 118 = .ok (.iadd, 1) := dk_96 (dk_at dksX5_takes_5 2 rfl rfl)
theorem dX5_takes_119 : decode cX5_takes 119 = .ok (.laload, 1) := dk_47 (dk_at dksX5_takes_5 3 rfl rfl)
theorem dX5_takes_120 : decode cX5_takes 120 = .ok (.l2i, 1) := dk_136 (dk_at dksX5_takes_5 4 rfl rfl)
theorem dX5_takes_121 : decode cX5_takes 121 = .ok (.istore 12, 2) := dk_54 12 (dk_at dksX5_takes_5 5 rfl rfl)
theorem dX5_takes_123 : decode cX5_takes 123 = .ok (.aload_n 0, 1) := dk_42 (dk_at dksX5_takes_5 7 rfl rfl)
theorem dX5_takes_124 : decode cX5_takes 124 = .ok (.getfield 7, 3) := dk_180 0 7 (dk_at dksX5_takes_5 8 rfl rfl)
theorem dX5_takes_127 : decode cX5_takes 127 = .ok (.sipush 368, 3) := dk_17 1 112 (dk_at dksX5_takes_5 11 rfl rfl)
theorem dX5_takes_130 : decode cX5_takes 130 = .ok (.iload 5, 2) := dk_21 5 (dk_at dksX5_takes_5 14 rfl rfl)
theorem dX5_takes_132 : decode cX5_takes 132 = .ok (.iadd, 1) := dk_96 (dk_at dksX5_takes_5 16 rfl rfl)
theorem dX5_takes_133 : decode cX5_takes 133 = .ok (.laload, 1) := dk_47 (dk_at dksX5_takes_5 17 rfl rfl)
theorem dX5_takes_134 : decode cX5_takes 134 = .ok (.l2i, 1) := dk_136 (dk_at dksX5_takes_5 18 rfl rfl)
theorem dX5_takes_135 : decode cX5_takes 135 = .ok (.istore 13, 2) := dk_54 13 (dk_at dksX5_takes_5 19 rfl rfl)
theorem dX5_takes_137 : decode cX5_takes 137 = .ok (.aload_n 0, 1) := dk_42 (dk_at dksX5_takes_5 21 rfl rfl)
theorem dX5_takes_138 : decode cX5_takes 138 = .ok (.iload 5, 2) := dk_21 5 (dk_at dksX5_takes_5 22 rfl rfl)
theorem dX5_takes_140 : decode cX5_takes 140 = .ok (.iload 12, 2) := dk_21 12 (dk_at dksX5_takes_6 0 rfl rfl)
theorem dX5_takes_142 : decode cX5_takes 142 = .ok (.iload 13, 2) := dk_21 13 (dk_at dksX5_takes_6 2 rfl rfl)
theorem dX5_takes_144 : decode cX5_takes 144 = .ok (.invokevirtual 145, 3) := dk_182 0 145 (dk_at dksX5_takes_6 4 rfl rfl)
theorem dX5_takes_147 : decode cX5_takes 147 = .ok (.aload_n 0, 1) := dk_42 (dk_at dksX5_takes_6 7 rfl rfl)
theorem dX5_takes_148 : decode cX5_takes 148 = .ok (.getfield 7, 3) := dk_180 0 7 (dk_at dksX5_takes_6 8 rfl rfl)
theorem dX5_takes_151 : decode cX5_takes 151 = .ok (.sipush 152, 3) := dk_17 0 152 (dk_at dksX5_takes_6 11 rfl rfl)
theorem dX5_takes_154 : decode cX5_takes 154 = .ok (.iload 12, 2) := dk_21 12 (dk_at dksX5_takes_6 14 rfl rfl)
theorem dX5_takes_156 : decode cX5_takes 156 = .ok (.iadd, 1) := dk_96 (dk_at dksX5_takes_6 16 rfl rfl)
theorem dX5_takes_157 : decode cX5_takes 157 = .ok (.laload, 1) := dk_47 (dk_at dksX5_takes_6 17 rfl rfl)
theorem dX5_takes_158 : decode cX5_takes 158 = .ok (.invokestatic 111, 3) := dk_184 0 111 (dk_at dksX5_takes_6 18 rfl rfl)
theorem dX5_takes_161 : decode cX5_takes 161 = .ok (.aload_n 0, 1) := dk_42 (dk_at dksX5_takes_6 21 rfl rfl)
theorem dX5_takes_162 : decode cX5_takes 162 = .ok (.getfield 7, 3) := dk_180 0 7 (dk_at dksX5_takes_7 0 rfl rfl)
theorem dX5_takes_165 : decode cX5_takes 165 = .ok (.sipush 152, 3) := dk_17 0 152 (dk_at dksX5_takes_7 3 rfl rfl)
theorem dX5_takes_168 : decode cX5_takes 168 = .ok (.iload 13, 2) := dk_21 13 (dk_at dksX5_takes_7 6 rfl rfl)
theorem dX5_takes_170 : decode cX5_takes 170 = .ok (.iadd, 1) := dk_96 (dk_at dksX5_takes_7 8 rfl rfl)
theorem dX5_takes_171 : decode cX5_takes 171 = .ok (.laload, 1) := dk_47 (dk_at dksX5_takes_7 9 rfl rfl)
theorem dX5_takes_172 : decode cX5_takes 172 = .ok (.invokestatic 111, 3) := dk_184 0 111 (dk_at dksX5_takes_7 10 rfl rfl)
theorem dX5_takes_175 : decode cX5_takes 175 = .ok (.if_icmp .ge 8, 3) := dk_162 0 8 (dk_at dksX5_takes_7 13 rfl rfl)
theorem dX5_takes_178 : decode cX5_takes 178 = .ok (.iload 12, 2) := dk_21 12 (dk_at dksX5_takes_7 16 rfl rfl)
theorem dX5_takes_180 : decode cX5_takes 180 = .ok (.goto 5, 3) := dk_167 0 5 (dk_at dksX5_takes_7 18 rfl rfl)
theorem dX5_takes_183 : decode cX5_takes 183 = .ok (.iload 13, 2) := dk_21 13 (dk_at dksX5_takes_7 21 rfl rfl)
theorem dX5_takes_185 : decode cX5_takes 185 = .ok (.istore 14, 2) := dk_54 14 (dk_at dksX5_takes_8 0 rfl rfl)
theorem dX5_takes_187 : decode cX5_takes 187 = .ok (.lload 10, 2) := dk_22 10 (dk_at dksX5_takes_8 2 rfl rfl)
theorem dX5_takes_189 : decode cX5_takes 189 = .ok (.aload_n 0, 1) := dk_42 (dk_at dksX5_takes_8 4 rfl rfl)
theorem dX5_takes_190 : decode cX5_takes 190 = .ok (.getfield 7, 3) := dk_180 0 7 (dk_at dksX5_takes_8 5 rfl rfl)
theorem dX5_takes_193 : decode cX5_takes 193 = .ok (.sipush 224, 3) := dk_17 0 224 (dk_at dksX5_takes_8 8 rfl rfl)
theorem dX5_takes_196 : decode cX5_takes 196 = .ok (.iload 14, 2) := dk_21 14 (dk_at dksX5_takes_8 11 rfl rfl)
theorem dX5_takes_198 : decode cX5_takes 198 = .ok (.iadd, 1) := dk_96 (dk_at dksX5_takes_8 13 rfl rfl)
theorem dX5_takes_199 : decode cX5_takes 199 = .ok (.laload, 1) := dk_47 (dk_at dksX5_takes_8 14 rfl rfl)
theorem dX5_takes_200 : decode cX5_takes 200 = .ok (.lcmp, 1) := dk_148 (dk_at dksX5_takes_8 15 rfl rfl)
theorem dX5_takes_201 : decode cX5_takes 201 = .ok (.ifCond .ge 8, 3) := dk_156 0 8 (dk_at dksX5_takes_8 16 rfl rfl)
theorem dX5_takes_204 : decode cX5_takes 204 = .ok (.lload 10, 2) := dk_22 10 (dk_at dksX5_takes_8 19 rfl rfl)
theorem dX5_takes_206 : decode cX5_takes 206 = .ok (.goto 14, 3) := dk_167 0 14 (dk_at dksX5_takes_8 21 rfl rfl)
theorem dX5_takes_209 : decode cX5_takes 209 = .ok (.aload_n 0, 1) := dk_42 (dk_at dksX5_takes_9 0 rfl rfl)
theorem dX5_takes_210 : decode cX5_takes 210 = .ok (.getfield 7, 3) := dk_180 0 7 (dk_at dksX5_takes_9 1 rfl rfl)
theorem dX5_takes_213 : decode cX5_takes 213 = .ok (.sipush 224, 3) := dk_17 0 224 (dk_at dksX5_takes_9 4 rfl rfl)
theorem dX5_takes_216 : decode cX5_takes 216 = .ok (.iload 14, 2) := dk_21 14 (dk_at dksX5_takes_9 7 rfl rfl)
theorem dX5_takes_218 : decode cX5_takes 218 = .ok (.iadd, 1) := dk_96 (dk_at dksX5_takes_9 9 rfl rfl)
theorem dX5_takes_219 : decode cX5_takes 219 = .ok (.laload, 1) := dk_47 (dk_at dksX5_takes_9 10 rfl rfl)
theorem dX5_takes_220 : decode cX5_takes 220 = .ok (.lstore 15, 2) := dk_55 15 (dk_at dksX5_takes_9 11 rfl rfl)
theorem dX5_takes_222 : decode cX5_takes 222 = .ok (.aload_n 0, 1) := dk_42 (dk_at dksX5_takes_9 13 rfl rfl)
theorem dX5_takes_223 : decode cX5_takes 223 = .ok (.getfield 22, 3) := dk_180 0 22 (dk_at dksX5_takes_9 14 rfl rfl)
theorem dX5_takes_226 : decode cX5_takes 226 = .ok (.iload 4, 2) := dk_21 4 (dk_at dksX5_takes_9 17 rfl rfl)
theorem dX5_takes_228 : decode cX5_takes 228 = .ok (.iload 12, 2) := dk_21 12 (dk_at dksX5_takes_9 19 rfl rfl)
theorem dX5_takes_230 : decode cX5_takes 230 = .ok (.iload 13, 2) := dk_21 13 (dk_at dksX5_takes_9 21 rfl rfl)
theorem dX5_takes_232 : decode cX5_takes 232 = .ok (.iadd, 1) := dk_96 (dk_at dksX5_takes_9 23 rfl rfl)
theorem dX5_takes_233 : decode cX5_takes 233 = .ok (.iload 14, 2) := dk_21 14 (dk_at dksX5_takes_10 0 rfl rfl)
theorem dX5_takes_235 : decode cX5_takes 235 = .ok (.isub, 1) := dk_100 (dk_at dksX5_takes_10 2 rfl rfl)
theorem dX5_takes_236 : decode cX5_takes 236 = .ok (.iastore, 1) := dk_79 (dk_at dksX5_takes_10 3 rfl rfl)
theorem dX5_takes_237 : decode cX5_takes 237 = .ok (.aload_n 0, 1) := dk_42 (dk_at dksX5_takes_10 4 rfl rfl)
theorem dX5_takes_238 : decode cX5_takes 238 = .ok (.getfield 26, 3) := dk_180 0 26 (dk_at dksX5_takes_10 5 rfl rfl)
theorem dX5_takes_241 : decode cX5_takes 241 = .ok (.iload 4, 2) := dk_21 4 (dk_at dksX5_takes_10 8 rfl rfl)
theorem dX5_takes_243 : decode cX5_takes 243 = .ok (.lload 10, 2) := dk_22 10 (dk_at dksX5_takes_10 10 rfl rfl)
theorem dX5_takes_245 : decode cX5_takes 245 = .ok (.lload 15, 2) := dk_22 15 (dk_at dksX5_takes_10 12 rfl rfl)
theorem dX5_takes_247 : decode cX5_takes 247 = .ok (.lsub, 1) := dk_101 (dk_at dksX5_takes_10 14 rfl rfl)
theorem dX5_takes_248 : decode cX5_takes 248 = .ok (.lastore, 1) := dk_80 (dk_at dksX5_takes_10 15 rfl rfl)
theorem dX5_takes_249 : decode cX5_takes 249 = .ok (.aload_n 0, 1) := dk_42 (dk_at dksX5_takes_10 16 rfl rfl)
theorem dX5_takes_250 : decode cX5_takes 250 = .ok (.getfield 22, 3) := dk_180 0 22 (dk_at dksX5_takes_10 17 rfl rfl)
theorem dX5_takes_253 : decode cX5_takes 253 = .ok (.iload 4, 2) := dk_21 4 (dk_at dksX5_takes_10 20 rfl rfl)
theorem dX5_takes_255 : decode cX5_takes 255 = .ok (.iconst 1, 1) := dk_4 (dk_at dksX5_takes_10 22 rfl rfl)
theorem dX5_takes_256 : decode cX5_takes 256 = .ok (.iadd, 1) := dk_96 (dk_at dksX5_takes_10 23 rfl rfl)
theorem dX5_takes_257 : decode cX5_takes 257 = .ok (.iload 14, 2) := dk_21 14 (dk_at dksX5_takes_11 0 rfl rfl)
theorem dX5_takes_259 : decode cX5_takes 259 = .ok (.iastore, 1) := dk_79 (dk_at dksX5_takes_11 2 rfl rfl)
theorem dX5_takes_260 : decode cX5_takes 260 = .ok (.aload_n 0, 1) := dk_42 (dk_at dksX5_takes_11 3 rfl rfl)
theorem dX5_takes_261 : decode cX5_takes 261 = .ok (.getfield 26, 3) := dk_180 0 26 (dk_at dksX5_takes_11 4 rfl rfl)
theorem dX5_takes_264 : decode cX5_takes 264 = .ok (.iload 4, 2) := dk_21 4 (dk_at dksX5_takes_11 7 rfl rfl)
theorem dX5_takes_266 : decode cX5_takes 266 = .ok (.iconst 1, 1) := dk_4 (dk_at dksX5_takes_11 9 rfl rfl)
theorem dX5_takes_267 : decode cX5_takes 267 = .ok (.iadd, 1) := dk_96 (dk_at dksX5_takes_11 10 rfl rfl)
theorem dX5_takes_268 : decode cX5_takes 268 = .ok (.lload 15, 2) := dk_22 15 (dk_at dksX5_takes_11 11 rfl rfl)
theorem dX5_takes_270 : decode cX5_takes 270 = .ok (.lastore, 1) := dk_80 (dk_at dksX5_takes_11 13 rfl rfl)
theorem dX5_takes_271 : decode cX5_takes 271 = .ok (.iinc 4 2, 3) := dk_132 4 2 (dk_at dksX5_takes_11 14 rfl rfl)
theorem dX5_takes_274 : decode cX5_takes 274 = .ok (.goto (-257), 3) := dk_167 254 255 (dk_at dksX5_takes_11 17 rfl rfl)
theorem dX5_takes_277 : decode cX5_takes 277 = .ok (.aload_n 0, 1) := dk_42 (dk_at dksX5_takes_11 20 rfl rfl)
theorem dX5_takes_278 : decode cX5_takes 278 = .ok (.getfield 7, 3) := dk_180 0 7 (dk_at dksX5_takes_11 21 rfl rfl)
theorem dX5_takes_281 : decode cX5_takes 281 = .ok (.iconst 4, 1) := dk_7 (dk_at dksX5_takes_12 0 rfl rfl)
theorem dX5_takes_282 : decode cX5_takes 282 = .ok (.dup2, 1) := dk_92 (dk_at dksX5_takes_12 1 rfl rfl)
theorem dX5_takes_283 : decode cX5_takes 283 = .ok (.laload, 1) := dk_47 (dk_at dksX5_takes_12 2 rfl rfl)
theorem dX5_takes_284 : decode cX5_takes 284 = .ok (.lload_n 2, 1) := dk_32 (dk_at dksX5_takes_12 3 rfl rfl)
theorem dX5_takes_285 : decode cX5_takes 285 = .ok (.ladd, 1) := dk_97 (dk_at dksX5_takes_12 4 rfl rfl)
theorem dX5_takes_286 : decode cX5_takes 286 = .ok (.lastore, 1) := dk_80 (dk_at dksX5_takes_12 5 rfl rfl)
theorem dX5_takes_287 : decode cX5_takes 287 = .ok (.return_, 1) := dk_177 (dk_at dksX5_takes_12 6 rfl rfl)
abbrev cX5_leastVolume : ByteArray := prog_13_method_27_code
def yX5_leastVolume : MethodName := ⟨RX5, "leastVolume", "(I)J"⟩
def dkwX5_leastVolume_1 : List UInt8 := [42, 180, 0, 7, 17, 1, 112, 27, 96, 47, 136, 182, 0, 127, 97, 167, 0, 4, 9, 173]
abbrev dktX5_leastVolume_1 : List UInt8 := dkwX5_leastVolume_1 ++ []
def dkwX5_leastVolume_0 : List UInt8 := [42, 27, 182, 0, 130, 153, 0, 37, 42, 42, 180, 0, 7, 17, 1, 40, 27, 96, 47, 136, 182, 0, 127, 42]
abbrev dktX5_leastVolume_0 : List UInt8 := dkwX5_leastVolume_0 ++ dktX5_leastVolume_1
theorem dksX5_leastVolume_0 : cX5_leastVolume.data.toList.drop 0 = dktX5_leastVolume_0 := by decide +kernel
theorem dksX5_leastVolume_1 : cX5_leastVolume.data.toList.drop 24 = dktX5_leastVolume_1 := dk_seg dksX5_leastVolume_0 24 rfl rfl
theorem dX5_leastVolume_0 : decode cX5_leastVolume 0 = .ok (.aload_n 0, 1) := dk_42 (dk_at dksX5_leastVolume_0 0 rfl rfl)
theorem dX5_leastVolume_1 : decode cX5_leastVolume 1 = .ok (.iload_n 1, 1) := dk_27 (dk_at dksX5_leastVolume_0 1 rfl rfl)
theorem dX5_leastVolume_2 : decode cX5_leastVolume 2 = .ok (.invokevirtual 130, 3) := dk_182 0 130 (dk_at dksX5_leastVolume_0 2 rfl rfl)
theorem dX5_leastVolume_5 : decode cX5_leastVolume 5 = .ok (.ifCond .eq 37, 3) := dk_153 0 37 (dk_at dksX5_leastVolume_0 5 rfl rfl)
theorem dX5_leastVolume_8 : decode cX5_leastVolume 8 = .ok (.aload_n 0, 1) := dk_42 (dk_at dksX5_leastVolume_0 8 rfl rfl)
theorem dX5_leastVolume_9 : decode cX5_leastVolume 9 = .ok (.aload_n 0, 1) := dk_42 (dk_at dksX5_leastVolume_0 9 rfl rfl)
theorem dX5_leastVolume_10 : decode cX5_leastVolume 10 = .ok (.getfield 7, 3) := dk_180 0 7 (dk_at dksX5_leastVolume_0 10 rfl rfl)
theorem dX5_leastVolume_13 : decode cX5_leastVolume 13 = .ok (.sipush 296, 3) := dk_17 1 40 (dk_at dksX5_leastVolume_0 13 rfl rfl)
theorem dX5_leastVolume_16 : decode cX5_leastVolume 16 = .ok (.iload_n 1, 1) := dk_27 (dk_at dksX5_leastVolume_0 16 rfl rfl)
theorem dX5_leastVolume_17 : decode cX5_leastVolume 17 = .ok (.iadd, 1) := dk_96 (dk_at dksX5_leastVolume_0 17 rfl rfl)
theorem dX5_leastVolume_18 : decode cX5_leastVolume 18 = .ok (.laload, 1) := dk_47 (dk_at dksX5_leastVolume_0 18 rfl rfl)
theorem dX5_leastVolume_19 : decode cX5_leastVolume 19 = .ok (.l2i, 1) := dk_136 (dk_at dksX5_leastVolume_0 19 rfl rfl)
theorem dX5_leastVolume_20 : decode cX5_leastVolume 20 = .ok (.invokevirtual 127, 3) := dk_182 0 127 (dk_at dksX5_leastVolume_0 20 rfl rfl)
theorem dX5_leastVolume_23 : decode cX5_leastVolume 23 = .ok (.aload_n 0, 1) := dk_42 (dk_at dksX5_leastVolume_0 23 rfl rfl)
theorem dX5_leastVolume_24 : decode cX5_leastVolume 24 = .ok (.aload_n 0, 1) := dk_42 (dk_at dksX5_leastVolume_1 0 rfl rfl)
theorem dX5_leastVolume_25 : decode cX5_leastVolume 25 = .ok (.getfield 7, 3) := dk_180 0 7 (dk_at dksX5_leastVolume_1 1 rfl rfl)
theorem dX5_leastVolume_28 : decode cX5_leastVolume 28 = .ok (.sipush 368, 3) := dk_17 1 112 (dk_at dksX5_leastVolume_1 4 rfl rfl)
theorem dX5_leastVolume_31 : decode cX5_leastVolume 31 = .ok (.iload_n 1, 1) := dk_27 (dk_at dksX5_leastVolume_1 7 rfl rfl)
theorem dX5_leastVolume_32 : decode cX5_leastVolume 32 = .ok (.iadd, 1) := dk_96 (dk_at dksX5_leastVolume_1 8 rfl rfl)
theorem dX5_leastVolume_33 : decode cX5_leastVolume 33 = .ok (.laload, 1) := dk_47 (dk_at dksX5_leastVolume_1 9 rfl rfl)
theorem dX5_leastVolume_34 : decode cX5_leastVolume 34 = .ok (.l2i, 1) := dk_136 (dk_at dksX5_leastVolume_1 10 rfl rfl)
theorem dX5_leastVolume_35 : decode cX5_leastVolume 35 = .ok (.invokevirtual 127, 3) := dk_182 0 127 (dk_at dksX5_leastVolume_1 11 rfl rfl)
theorem dX5_leastVolume_38 : decode cX5_leastVolume 38 = .ok (.ladd, 1) := dk_97 (dk_at dksX5_leastVolume_1 14 rfl rfl)
theorem dX5_leastVolume_39 : decode cX5_leastVolume 39 = .ok (.goto 4, 3) := dk_167 0 4 (dk_at dksX5_leastVolume_1 15 rfl rfl)
theorem dX5_leastVolume_42 : decode cX5_leastVolume 42 = .ok (.lconst 0, 1) := dk_9 (dk_at dksX5_leastVolume_1 18 rfl rfl)
theorem dX5_leastVolume_43 : decode cX5_leastVolume 43 = .ok (.lreturn, 1) := dk_173 (dk_at dksX5_leastVolume_1 19 rfl rfl)
abbrev cX5_isJoined : ByteArray := prog_13_method_26_code
def yX5_isJoined : MethodName := ⟨RX5, "isJoined", "(I)Z"⟩
def dkwX5_isJoined_1 : List UInt8 := [4, 167, 0, 4, 3, 172]
abbrev dktX5_isJoined_1 : List UInt8 := dkwX5_isJoined_1 ++ []
def dkwX5_isJoined_0 : List UInt8 := [42, 180, 0, 7, 17, 1, 40, 27, 96, 47, 42, 180, 0, 7, 17, 1, 112, 27, 96, 47, 148, 153, 0, 7]
abbrev dktX5_isJoined_0 : List UInt8 := dkwX5_isJoined_0 ++ dktX5_isJoined_1
theorem dksX5_isJoined_0 : cX5_isJoined.data.toList.drop 0 = dktX5_isJoined_0 := by decide +kernel
theorem dksX5_isJoined_1 : cX5_isJoined.data.toList.drop 24 = dktX5_isJoined_1 := dk_seg dksX5_isJoined_0 24 rfl rfl
theorem dX5_isJoined_0 : decode cX5_isJoined 0 = .ok (.aload_n 0, 1) := dk_42 (dk_at dksX5_isJoined_0 0 rfl rfl)
theorem dX5_isJoined_1 : decode cX5_isJoined 1 = .ok (.getfield 7, 3) := dk_180 0 7 (dk_at dksX5_isJoined_0 1 rfl rfl)
theorem dX5_isJoined_4 : decode cX5_isJoined 4 = .ok (.sipush 296, 3) := dk_17 1 40 (dk_at dksX5_isJoined_0 4 rfl rfl)
theorem dX5_isJoined_7 : decode cX5_isJoined 7 = .ok (.iload_n 1, 1) := dk_27 (dk_at dksX5_isJoined_0 7 rfl rfl)
theorem dX5_isJoined_8 : decode cX5_isJoined 8 = .ok (.iadd, 1) := dk_96 (dk_at dksX5_isJoined_0 8 rfl rfl)
theorem dX5_isJoined_9 : decode cX5_isJoined 9 = .ok (.laload, 1) := dk_47 (dk_at dksX5_isJoined_0 9 rfl rfl)
theorem dX5_isJoined_10 : decode cX5_isJoined 10 = .ok (.aload_n 0, 1) := dk_42 (dk_at dksX5_isJoined_0 10 rfl rfl)
theorem dX5_isJoined_11 : decode cX5_isJoined 11 = .ok (.getfield 7, 3) := dk_180 0 7 (dk_at dksX5_isJoined_0 11 rfl rfl)
theorem dX5_isJoined_14 : decode cX5_isJoined 14 = .ok (.sipush 368, 3) := dk_17 1 112 (dk_at dksX5_isJoined_0 14 rfl rfl)
theorem dX5_isJoined_17 : decode cX5_isJoined 17 = .ok (.iload_n 1, 1) := dk_27 (dk_at dksX5_isJoined_0 17 rfl rfl)
theorem dX5_isJoined_18 : decode cX5_isJoined 18 = .ok (.iadd, 1) := dk_96 (dk_at dksX5_isJoined_0 18 rfl rfl)
theorem dX5_isJoined_19 : decode cX5_isJoined 19 = .ok (.laload, 1) := dk_47 (dk_at dksX5_isJoined_0 19 rfl rfl)
theorem dX5_isJoined_20 : decode cX5_isJoined 20 = .ok (.lcmp, 1) := dk_148 (dk_at dksX5_isJoined_0 20 rfl rfl)
theorem dX5_isJoined_21 : decode cX5_isJoined 21 = .ok (.ifCond .eq 7, 3) := dk_153 0 7 (dk_at dksX5_isJoined_0 21 rfl rfl)
theorem dX5_isJoined_24 : decode cX5_isJoined 24 = .ok (.iconst 1, 1) := dk_4 (dk_at dksX5_isJoined_1 0 rfl rfl)
theorem dX5_isJoined_25 : decode cX5_isJoined 25 = .ok (.goto 4, 3) := dk_167 0 4 (dk_at dksX5_isJoined_1 1 rfl rfl)
theorem dX5_isJoined_28 : decode cX5_isJoined 28 = .ok (.iconst 0, 1) := dk_3 (dk_at dksX5_isJoined_1 4 rfl rfl)
theorem dX5_isJoined_29 : decode cX5_isJoined 29 = .ok (.ireturn, 1) := dk_172 (dk_at dksX5_isJoined_1 5 rfl rfl)
abbrev cX5_parts : ByteArray := prog_13_method_32_code
def yX5_parts : MethodName := ⟨RX5, "parts", "(III)V"⟩
def dkwX5_parts_4 : List UInt8 := [96, 10, 80, 42, 180, 0, 7, 17, 1, 184, 29, 96, 10, 80, 177]
abbrev dktX5_parts_4 : List UInt8 := dkwX5_parts_4 ++ []
def dkwX5_parts_3 : List UInt8 := [80, 42, 180, 0, 7, 17, 0, 224, 29, 96, 42, 29, 182, 0, 127, 80, 42, 180, 0, 7, 17, 1, 184, 28]
abbrev dktX5_parts_3 : List UInt8 := dkwX5_parts_3 ++ dktX5_parts_4
def dkwX5_parts_2 : List UInt8 := [180, 0, 7, 17, 1, 184, 27, 96, 9, 80, 42, 180, 0, 7, 17, 0, 224, 28, 96, 42, 28, 182, 0, 127]
abbrev dktX5_parts_2 : List UInt8 := dkwX5_parts_2 ++ dktX5_parts_3
def dkwX5_parts_1 : List UInt8 := [180, 0, 7, 17, 1, 40, 27, 96, 9, 80, 42, 180, 0, 7, 17, 1, 112, 27, 96, 9, 80, 42]
abbrev dktX5_parts_1 : List UInt8 := dkwX5_parts_1 ++ dktX5_parts_2
def dkwX5_parts_0 : List UInt8 := [42, 180, 0, 7, 17, 0, 152, 27, 96, 9, 80, 42, 180, 0, 7, 17, 0, 224, 27, 96, 9, 80, 42]
abbrev dktX5_parts_0 : List UInt8 := dkwX5_parts_0 ++ dktX5_parts_1
theorem dksX5_parts_0 : cX5_parts.data.toList.drop 0 = dktX5_parts_0 := by decide +kernel
theorem dksX5_parts_1 : cX5_parts.data.toList.drop 23 = dktX5_parts_1 := dk_seg dksX5_parts_0 23 rfl rfl
theorem dksX5_parts_2 : cX5_parts.data.toList.drop 45 = dktX5_parts_2 := dk_seg dksX5_parts_1 22 rfl rfl
theorem dksX5_parts_3 : cX5_parts.data.toList.drop 69 = dktX5_parts_3 := dk_seg dksX5_parts_2 24 rfl rfl
theorem dksX5_parts_4 : cX5_parts.data.toList.drop 93 = dktX5_parts_4 := dk_seg dksX5_parts_3 24 rfl rfl
theorem dX5_parts_0 : decode cX5_parts 0 = .ok (.aload_n 0, 1) := dk_42 (dk_at dksX5_parts_0 0 rfl rfl)
theorem dX5_parts_1 : decode cX5_parts 1 = .ok (.getfield 7, 3) := dk_180 0 7 (dk_at dksX5_parts_0 1 rfl rfl)
theorem dX5_parts_4 : decode cX5_parts 4 = .ok (.sipush 152, 3) := dk_17 0 152 (dk_at dksX5_parts_0 4 rfl rfl)
theorem dX5_parts_7 : decode cX5_parts 7 = .ok (.iload_n 1, 1) := dk_27 (dk_at dksX5_parts_0 7 rfl rfl)
theorem dX5_parts_8 : decode cX5_parts 8 = .ok (.iadd, 1) := dk_96 (dk_at dksX5_parts_0 8 rfl rfl)
theorem dX5_parts_9 : decode cX5_parts 9 = .ok (.lconst 0, 1) := dk_9 (dk_at dksX5_parts_0 9 rfl rfl)
theorem dX5_parts_10 : decode cX5_parts 10 = .ok (.lastore, 1) := dk_80 (dk_at dksX5_parts_0 10 rfl rfl)
theorem dX5_parts_11 : decode cX5_parts 11 = .ok (.aload_n 0, 1) := dk_42 (dk_at dksX5_parts_0 11 rfl rfl)
theorem dX5_parts_12 : decode cX5_parts 12 = .ok (.getfield 7, 3) := dk_180 0 7 (dk_at dksX5_parts_0 12 rfl rfl)
theorem dX5_parts_15 : decode cX5_parts 15 = .ok (.sipush 224, 3) := dk_17 0 224 (dk_at dksX5_parts_0 15 rfl rfl)
theorem dX5_parts_18 : decode cX5_parts 18 = .ok (.iload_n 1, 1) := dk_27 (dk_at dksX5_parts_0 18 rfl rfl)
theorem dX5_parts_19 : decode cX5_parts 19 = .ok (.iadd, 1) := dk_96 (dk_at dksX5_parts_0 19 rfl rfl)
theorem dX5_parts_20 : decode cX5_parts 20 = .ok (.lconst 0, 1) := dk_9 (dk_at dksX5_parts_0 20 rfl rfl)
theorem dX5_parts_21 : decode cX5_parts 21 = .ok (.lastore, 1) := dk_80 (dk_at dksX5_parts_0 21 rfl rfl)
theorem dX5_parts_22 : decode cX5_parts 22 = .ok (.aload_n 0, 1) := dk_42 (dk_at dksX5_parts_0 22 rfl rfl)
theorem dX5_parts_23 : decode cX5_parts 23 = .ok (.getfield 7, 3) := dk_180 0 7 (dk_at dksX5_parts_1 0 rfl rfl)
theorem dX5_parts_26 : decode cX5_parts 26 = .ok (.sipush 296, 3) := dk_17 1 40 (dk_at dksX5_parts_1 3 rfl rfl)
theorem dX5_parts_29 : decode cX5_parts 29 = .ok (.iload_n 1, 1) := dk_27 (dk_at dksX5_parts_1 6 rfl rfl)
theorem dX5_parts_30 : decode cX5_parts 30 = .ok (.iadd, 1) := dk_96 (dk_at dksX5_parts_1 7 rfl rfl)
theorem dX5_parts_31 : decode cX5_parts 31 = .ok (.lconst 0, 1) := dk_9 (dk_at dksX5_parts_1 8 rfl rfl)
theorem dX5_parts_32 : decode cX5_parts 32 = .ok (.lastore, 1) := dk_80 (dk_at dksX5_parts_1 9 rfl rfl)
theorem dX5_parts_33 : decode cX5_parts 33 = .ok (.aload_n 0, 1) := dk_42 (dk_at dksX5_parts_1 10 rfl rfl)
theorem dX5_parts_34 : decode cX5_parts 34 = .ok (.getfield 7, 3) := dk_180 0 7 (dk_at dksX5_parts_1 11 rfl rfl)
theorem dX5_parts_37 : decode cX5_parts 37 = .ok (.sipush 368, 3) := dk_17 1 112 (dk_at dksX5_parts_1 14 rfl rfl)
theorem dX5_parts_40 : decode cX5_parts 40 = .ok (.iload_n 1, 1) := dk_27 (dk_at dksX5_parts_1 17 rfl rfl)
theorem dX5_parts_41 : decode cX5_parts 41 = .ok (.iadd, 1) := dk_96 (dk_at dksX5_parts_1 18 rfl rfl)
theorem dX5_parts_42 : decode cX5_parts 42 = .ok (.lconst 0, 1) := dk_9 (dk_at dksX5_parts_1 19 rfl rfl)
theorem dX5_parts_43 : decode cX5_parts 43 = .ok (.lastore, 1) := dk_80 (dk_at dksX5_parts_1 20 rfl rfl)
theorem dX5_parts_44 : decode cX5_parts 44 = .ok (.aload_n 0, 1) := dk_42 (dk_at dksX5_parts_1 21 rfl rfl)
theorem dX5_parts_45 : decode cX5_parts 45 = .ok (.getfield 7, 3) := dk_180 0 7 (dk_at dksX5_parts_2 0 rfl rfl)
theorem dX5_parts_48 : decode cX5_parts 48 = .ok (.sipush 440, 3) := dk_17 1 184 (dk_at dksX5_parts_2 3 rfl rfl)
theorem dX5_parts_51 : decode cX5_parts 51 = .ok (.iload_n 1, 1) := dk_27 (dk_at dksX5_parts_2 6 rfl rfl)
theorem dX5_parts_52 : decode cX5_parts 52 = .ok (.iadd, 1) := dk_96 (dk_at dksX5_parts_2 7 rfl rfl)
theorem dX5_parts_53 : decode cX5_parts 53 = .ok (.lconst 0, 1) := dk_9 (dk_at dksX5_parts_2 8 rfl rfl)
theorem dX5_parts_54 : decode cX5_parts 54 = .ok (.lastore, 1) := dk_80 (dk_at dksX5_parts_2 9 rfl rfl)
theorem dX5_parts_55 : decode cX5_parts 55 = .ok (.aload_n 0, 1) := dk_42 (dk_at dksX5_parts_2 10 rfl rfl)
theorem dX5_parts_56 : decode cX5_parts 56 = .ok (.getfield 7, 3) := dk_180 0 7 (dk_at dksX5_parts_2 11 rfl rfl)
theorem dX5_parts_59 : decode cX5_parts 59 = .ok (.sipush 224, 3) := dk_17 0 224 (dk_at dksX5_parts_2 14 rfl rfl)
theorem dX5_parts_62 : decode cX5_parts 62 = .ok (.iload_n 2, 1) := dk_28 (dk_at dksX5_parts_2 17 rfl rfl)
theorem dX5_parts_63 : decode cX5_parts 63 = .ok (.iadd, 1) := dk_96 (dk_at dksX5_parts_2 18 rfl rfl)
theorem dX5_parts_64 : decode cX5_parts 64 = .ok (.aload_n 0, 1) := dk_42 (dk_at dksX5_parts_2 19 rfl rfl)
theorem dX5_parts_65 : decode cX5_parts 65 = .ok (.iload_n 2, 1) := dk_28 (dk_at dksX5_parts_2 20 rfl rfl)
theorem dX5_parts_66 : decode cX5_parts 66 = .ok (.invokevirtual 127, 3) := dk_182 0 127 (dk_at dksX5_parts_2 21 rfl rfl)
theorem dX5_parts_69 : decode cX5_parts 69 = .ok (.lastore, 1) := dk_80 (dk_at dksX5_parts_3 0 rfl rfl)
theorem dX5_parts_70 : decode cX5_parts 70 = .ok (.aload_n 0, 1) := dk_42 (dk_at dksX5_parts_3 1 rfl rfl)
theorem dX5_parts_71 : decode cX5_parts 71 = .ok (.getfield 7, 3) := dk_180 0 7 (dk_at dksX5_parts_3 2 rfl rfl)
theorem dX5_parts_74 : decode cX5_parts 74 = .ok (.sipush 224, 3) := dk_17 0 224 (dk_at dksX5_parts_3 5 rfl rfl)
theorem dX5_parts_77 : decode cX5_parts 77 = .ok (.iload_n 3, 1) := dk_29 (dk_at dksX5_parts_3 8 rfl rfl)
theorem dX5_parts_78 : decode cX5_parts 78 = .ok (.iadd, 1) := dk_96 (dk_at dksX5_parts_3 9 rfl rfl)
theorem dX5_parts_79 : decode cX5_parts 79 = .ok (.aload_n 0, 1) := dk_42 (dk_at dksX5_parts_3 10 rfl rfl)
theorem dX5_parts_80 : decode cX5_parts 80 = .ok (.iload_n 3, 1) := dk_29 (dk_at dksX5_parts_3 11 rfl rfl)
theorem dX5_parts_81 : decode cX5_parts 81 = .ok (.invokevirtual 127, 3) := dk_182 0 127 (dk_at dksX5_parts_3 12 rfl rfl)
theorem dX5_parts_84 : decode cX5_parts 84 = .ok (.lastore, 1) := dk_80 (dk_at dksX5_parts_3 15 rfl rfl)
theorem dX5_parts_85 : decode cX5_parts 85 = .ok (.aload_n 0, 1) := dk_42 (dk_at dksX5_parts_3 16 rfl rfl)
theorem dX5_parts_86 : decode cX5_parts 86 = .ok (.getfield 7, 3) := dk_180 0 7 (dk_at dksX5_parts_3 17 rfl rfl)
theorem dX5_parts_89 : decode cX5_parts 89 = .ok (.sipush 440, 3) := dk_17 1 184 (dk_at dksX5_parts_3 20 rfl rfl)
theorem dX5_parts_92 : decode cX5_parts 92 = .ok (.iload_n 2, 1) := dk_28 (dk_at dksX5_parts_3 23 rfl rfl)
theorem dX5_parts_93 : decode cX5_parts 93 = .ok (.iadd, 1) := dk_96 (dk_at dksX5_parts_4 0 rfl rfl)
theorem dX5_parts_94 : decode cX5_parts 94 = .ok (.lconst 1, 1) := dk_10 (dk_at dksX5_parts_4 1 rfl rfl)
theorem dX5_parts_95 : decode cX5_parts 95 = .ok (.lastore, 1) := dk_80 (dk_at dksX5_parts_4 2 rfl rfl)
theorem dX5_parts_96 : decode cX5_parts 96 = .ok (.aload_n 0, 1) := dk_42 (dk_at dksX5_parts_4 3 rfl rfl)
theorem dX5_parts_97 : decode cX5_parts 97 = .ok (.getfield 7, 3) := dk_180 0 7 (dk_at dksX5_parts_4 4 rfl rfl)
theorem dX5_parts_100 : decode cX5_parts 100 = .ok (.sipush 440, 3) := dk_17 1 184 (dk_at dksX5_parts_4 7 rfl rfl)
theorem dX5_parts_103 : decode cX5_parts 103 = .ok (.iload_n 3, 1) := dk_29 (dk_at dksX5_parts_4 10 rfl rfl)
theorem dX5_parts_104 : decode cX5_parts 104 = .ok (.iadd, 1) := dk_96 (dk_at dksX5_parts_4 11 rfl rfl)
theorem dX5_parts_105 : decode cX5_parts 105 = .ok (.lconst 1, 1) := dk_10 (dk_at dksX5_parts_4 12 rfl rfl)
theorem dX5_parts_106 : decode cX5_parts 106 = .ok (.lastore, 1) := dk_80 (dk_at dksX5_parts_4 13 rfl rfl)
theorem dX5_parts_107 : decode cX5_parts 107 = .ok (.return_, 1) := dk_177 (dk_at dksX5_parts_4 14 rfl rfl)
abbrev cX5_take : ByteArray := prog_13_method_61_code
def yX5_take : MethodName := ⟨RX5, "take", "(II)I"⟩
def dkwX5_take_3 : List UInt8 := [28, 133, 182, 0, 238, 42, 182, 0, 152, 42, 180, 0, 149, 172]
abbrev dktX5_take_3 : List UInt8 := dkwX5_take_3 ++ []
def dkwX5_take_2 : List UInt8 := [167, 0, 4, 3, 4, 182, 0, 183, 154, 0, 5, 3, 172, 42, 182, 0, 187, 42, 42, 180, 0, 29, 27, 46]
abbrev dktX5_take_2 : List UInt8 := dkwX5_take_2 ++ dktX5_take_3
def dkwX5_take_1 : List UInt8 := [180, 0, 29, 29, 153, 0, 7, 27, 167, 0, 4, 3, 46, 96, 47, 184, 0, 65, 153, 0, 7, 4]
abbrev dktX5_take_1 : List UInt8 := dkwX5_take_1 ++ dktX5_take_2
def dkwX5_take_0 : List UInt8 := [42, 27, 182, 0, 246, 62, 42, 29, 29, 153, 0, 39, 28, 133, 9, 42, 180, 0, 7, 17, 0, 224, 42]
abbrev dktX5_take_0 : List UInt8 := dkwX5_take_0 ++ dktX5_take_1
theorem dksX5_take_0 : cX5_take.data.toList.drop 0 = dktX5_take_0 := by decide +kernel
theorem dksX5_take_1 : cX5_take.data.toList.drop 23 = dktX5_take_1 := dk_seg dksX5_take_0 23 rfl rfl
theorem dksX5_take_2 : cX5_take.data.toList.drop 45 = dktX5_take_2 := dk_seg dksX5_take_1 22 rfl rfl
theorem dksX5_take_3 : cX5_take.data.toList.drop 69 = dktX5_take_3 := dk_seg dksX5_take_2 24 rfl rfl
theorem dX5_take_0 : decode cX5_take 0 = .ok (.aload_n 0, 1) := dk_42 (dk_at dksX5_take_0 0 rfl rfl)
theorem dX5_take_1 : decode cX5_take 1 = .ok (.iload_n 1, 1) := dk_27 (dk_at dksX5_take_0 1 rfl rfl)
theorem dX5_take_2 : decode cX5_take 2 = .ok (.invokevirtual 246, 3) := dk_182 0 246 (dk_at dksX5_take_0 2 rfl rfl)
theorem dX5_take_5 : decode cX5_take 5 = .ok (.istore_n 3, 1) := dk_62 (dk_at dksX5_take_0 5 rfl rfl)
theorem dX5_take_6 : decode cX5_take 6 = .ok (.aload_n 0, 1) := dk_42 (dk_at dksX5_take_0 6 rfl rfl)
theorem dX5_take_7 : decode cX5_take 7 = .ok (.iload_n 3, 1) := dk_29 (dk_at dksX5_take_0 7 rfl rfl)
theorem dX5_take_8 : decode cX5_take 8 = .ok (.iload_n 3, 1) := dk_29 (dk_at dksX5_take_0 8 rfl rfl)
theorem dX5_take_9 : decode cX5_take 9 = .ok (.ifCond .eq 39, 3) := dk_153 0 39 (dk_at dksX5_take_0 9 rfl rfl)
theorem dX5_take_12 : decode cX5_take 12 = .ok (.iload_n 2, 1) := dk_28 (dk_at dksX5_take_0 12 rfl rfl)
theorem dX5_take_13 : decode cX5_take 13 = .ok (.i2l, 1) := dk_133 (dk_at dksX5_take_0 13 rfl rfl)
theorem dX5_take_14 : decode cX5_take 14 = .ok (.lconst 0, 1) := dk_9 (dk_at dksX5_take_0 14 rfl rfl)
theorem dX5_take_15 : decode cX5_take 15 = .ok (.aload_n 0, 1) := dk_42 (dk_at dksX5_take_0 15 rfl rfl)
theorem dX5_take_16 : decode cX5_take 16 = .ok (.getfield 7, 3) := dk_180 0 7 (dk_at dksX5_take_0 16 rfl rfl)
theorem dX5_take_19 : decode cX5_take 19 = .ok (.sipush 224, 3) := dk_17 0 224 (dk_at dksX5_take_0 19 rfl rfl)
theorem dX5_take_22 : decode cX5_take 22 = .ok (.aload_n 0, 1) := dk_42 (dk_at dksX5_take_0 22 rfl rfl)
theorem dX5_take_23 : decode cX5_take 23 = .ok (.getfield 29, 3) := dk_180 0 29 (dk_at dksX5_take_1 0 rfl rfl)
theorem dX5_take_26 : decode cX5_take 26 = .ok (.iload_n 3, 1) := dk_29 (dk_at dksX5_take_1 3 rfl rfl)
theorem dX5_take_27 : decode cX5_take 27 = .ok (.ifCond .eq 7, 3) := dk_153 0 7 (dk_at dksX5_take_1 4 rfl rfl)
theorem dX5_take_30 : decode cX5_take 30 = .ok (.iload_n 1, 1) := dk_27 (dk_at dksX5_take_1 7 rfl rfl)
theorem dX5_take_31 : decode cX5_take 31 = .ok (.goto 4, 3) := dk_167 0 4 (dk_at dksX5_take_1 8 rfl rfl)
theorem dX5_take_34 : decode cX5_take 34 = .ok (.iconst 0, 1) := dk_3 (dk_at dksX5_take_1 11 rfl rfl)
theorem dX5_take_35 : decode cX5_take 35 = .ok (.iaload, 1) := dk_46 (dk_at dksX5_take_1 12 rfl rfl)
theorem dX5_take_36 : decode cX5_take 36 = .ok (.iadd, 1) := dk_96 (dk_at dksX5_take_1 13 rfl rfl)
theorem dX5_take_37 : decode cX5_take 37 = .ok (.laload, 1) := dk_47 (dk_at dksX5_take_1 14 rfl rfl)
theorem dX5_take_38 : decode cX5_take 38 = .ok (.invokestatic 65, 3) := dk_184 0 65 (dk_at dksX5_take_1 15 rfl rfl)
theorem dX5_take_41 : decode cX5_take 41 = .ok (.ifCond .eq 7, 3) := dk_153 0 7 (dk_at dksX5_take_1 18 rfl rfl)
theorem dX5_take_44 : decode cX5_take 44 = .ok (.iconst 1, 1) := dk_4 (dk_at dksX5_take_1 21 rfl rfl)
theorem dX5_take_45 : decode cX5_take 45 = .ok (.goto 4, 3) := dk_167 0 4 (dk_at dksX5_take_2 0 rfl rfl)
theorem dX5_take_48 : decode cX5_take 48 = .ok (.iconst 0, 1) := dk_3 (dk_at dksX5_take_2 3 rfl rfl)
theorem dX5_take_49 : decode cX5_take 49 = .ok (.iconst 1, 1) := dk_4 (dk_at dksX5_take_2 4 rfl rfl)
theorem dX5_take_50 : decode cX5_take 50 = .ok (.invokevirtual 183, 3) := dk_182 0 183 (dk_at dksX5_take_2 5 rfl rfl)
theorem dX5_take_53 : decode cX5_take 53 = .ok (.ifCond .ne 5, 3) := dk_154 0 5 (dk_at dksX5_take_2 8 rfl rfl)
theorem dX5_take_56 : decode cX5_take 56 = .ok (.iconst 0, 1) := dk_3 (dk_at dksX5_take_2 11 rfl rfl)
theorem dX5_take_57 : decode cX5_take 57 = .ok (.ireturn, 1) := dk_172 (dk_at dksX5_take_2 12 rfl rfl)
theorem dX5_take_58 : decode cX5_take 58 = .ok (.aload_n 0, 1) := dk_42 (dk_at dksX5_take_2 13 rfl rfl)
theorem dX5_take_59 : decode cX5_take 59 = .ok (.invokevirtual 187, 3) := dk_182 0 187 (dk_at dksX5_take_2 14 rfl rfl)
theorem dX5_take_62 : decode cX5_take 62 = .ok (.aload_n 0, 1) := dk_42 (dk_at dksX5_take_2 17 rfl rfl)
theorem dX5_take_63 : decode cX5_take 63 = .ok (.aload_n 0, 1) := dk_42 (dk_at dksX5_take_2 18 rfl rfl)
theorem dX5_take_64 : decode cX5_take 64 = .ok (.getfield 29, 3) := dk_180 0 29 (dk_at dksX5_take_2 19 rfl rfl)
theorem dX5_take_67 : decode cX5_take 67 = .ok (.iload_n 1, 1) := dk_27 (dk_at dksX5_take_2 22 rfl rfl)
theorem dX5_take_68 : decode cX5_take 68 = .ok (.iaload, 1) := dk_46 (dk_at dksX5_take_2 23 rfl rfl)
theorem dX5_take_69 : decode cX5_take 69 = .ok (.iload_n 2, 1) := dk_28 (dk_at dksX5_take_3 0 rfl rfl)
theorem dX5_take_70 : decode cX5_take 70 = .ok (.i2l, 1) := dk_133 (dk_at dksX5_take_3 1 rfl rfl)
theorem dX5_take_71 : decode cX5_take 71 = .ok (.invokevirtual 238, 3) := dk_182 0 238 (dk_at dksX5_take_3 2 rfl rfl)
theorem dX5_take_74 : decode cX5_take 74 = .ok (.aload_n 0, 1) := dk_42 (dk_at dksX5_take_3 5 rfl rfl)
theorem dX5_take_75 : decode cX5_take 75 = .ok (.invokevirtual 152, 3) := dk_182 0 152 (dk_at dksX5_take_3 6 rfl rfl)
theorem dX5_take_78 : decode cX5_take 78 = .ok (.aload_n 0, 1) := dk_42 (dk_at dksX5_take_3 9 rfl rfl)
theorem dX5_take_79 : decode cX5_take 79 = .ok (.getfield 149, 3) := dk_180 0 149 (dk_at dksX5_take_3 10 rfl rfl)
theorem dX5_take_82 : decode cX5_take 82 = .ok (.ireturn, 1) := dk_172 (dk_at dksX5_take_3 13 rfl rfl)
abbrev cX5_isLake : ByteArray := prog_13_method_35_code
def yX5_isLake : MethodName := ⟨RX5, "isLake", "(I)Z"⟩
def dkwX5_isLake_0 : List UInt8 := [42, 182, 0, 152, 27, 133, 9, 42, 180, 0, 149, 133, 10, 101, 184, 0, 65, 172]
abbrev dktX5_isLake_0 : List UInt8 := dkwX5_isLake_0 ++ []
theorem dksX5_isLake_0 : cX5_isLake.data.toList.drop 0 = dktX5_isLake_0 := by decide +kernel
theorem dX5_isLake_0 : decode cX5_isLake 0 = .ok (.aload_n 0, 1) := dk_42 (dk_at dksX5_isLake_0 0 rfl rfl)
theorem dX5_isLake_1 : decode cX5_isLake 1 = .ok (.invokevirtual 152, 3) := dk_182 0 152 (dk_at dksX5_isLake_0 1 rfl rfl)
theorem dX5_isLake_4 : decode cX5_isLake 4 = .ok (.iload_n 1, 1) := dk_27 (dk_at dksX5_isLake_0 4 rfl rfl)
theorem dX5_isLake_5 : decode cX5_isLake 5 = .ok (.i2l, 1) := dk_133 (dk_at dksX5_isLake_0 5 rfl rfl)
theorem dX5_isLake_6 : decode cX5_isLake 6 = .ok (.lconst 0, 1) := dk_9 (dk_at dksX5_isLake_0 6 rfl rfl)
theorem dX5_isLake_7 : decode cX5_isLake 7 = .ok (.aload_n 0, 1) := dk_42 (dk_at dksX5_isLake_0 7 rfl rfl)
theorem dX5_isLake_8 : decode cX5_isLake 8 = .ok (.getfield 149, 3) := dk_180 0 149 (dk_at dksX5_isLake_0 8 rfl rfl)
theorem dX5_isLake_11 : decode cX5_isLake 11 = .ok (.i2l, 1) := dk_133 (dk_at dksX5_isLake_0 11 rfl rfl)
theorem dX5_isLake_12 : decode cX5_isLake 12 = .ok (.lconst 1, 1) := dk_10 (dk_at dksX5_isLake_0 12 rfl rfl)
theorem dX5_isLake_13 : decode cX5_isLake 13 = .ok (.lsub, 1) := dk_101 (dk_at dksX5_isLake_0 13 rfl rfl)
theorem dX5_isLake_14 : decode cX5_isLake 14 = .ok (.invokestatic 65, 3) := dk_184 0 65 (dk_at dksX5_isLake_0 14 rfl rfl)
theorem dX5_isLake_17 : decode cX5_isLake 17 = .ok (.ireturn, 1) := dk_172 (dk_at dksX5_isLake_0 17 rfl rfl)
abbrev cX5_balance : ByteArray := prog_13_method_63_code
def yX5_balance : MethodName := ⟨RX5, "balance", "(I)J"⟩
def dkwX5_balance_1 : List UInt8 := [167, 0, 4, 9, 173]
abbrev dktX5_balance_1 : List UInt8 := dkwX5_balance_1 ++ []
def dkwX5_balance_0 : List UInt8 := [42, 27, 133, 9, 20, 0, 249, 184, 0, 65, 4, 4, 182, 0, 183, 153, 0, 11, 42, 27, 182, 0, 251]
abbrev dktX5_balance_0 : List UInt8 := dkwX5_balance_0 ++ dktX5_balance_1
theorem dksX5_balance_0 : cX5_balance.data.toList.drop 0 = dktX5_balance_0 := by decide +kernel
theorem dksX5_balance_1 : cX5_balance.data.toList.drop 23 = dktX5_balance_1 := dk_seg dksX5_balance_0 23 rfl rfl
theorem dX5_balance_0 : decode cX5_balance 0 = .ok (.aload_n 0, 1) := dk_42 (dk_at dksX5_balance_0 0 rfl rfl)
theorem dX5_balance_1 : decode cX5_balance 1 = .ok (.iload_n 1, 1) := dk_27 (dk_at dksX5_balance_0 1 rfl rfl)
theorem dX5_balance_2 : decode cX5_balance 2 = .ok (.i2l, 1) := dk_133 (dk_at dksX5_balance_0 2 rfl rfl)
theorem dX5_balance_3 : decode cX5_balance 3 = .ok (.lconst 0, 1) := dk_9 (dk_at dksX5_balance_0 3 rfl rfl)
theorem dX5_balance_4 : decode cX5_balance 4 = .ok (.ldc2_w 249, 3) := dk_20 0 249 (dk_at dksX5_balance_0 4 rfl rfl)
theorem dX5_balance_7 : decode cX5_balance 7 = .ok (.invokestatic 65, 3) := dk_184 0 65 (dk_at dksX5_balance_0 7 rfl rfl)
theorem dX5_balance_10 : decode cX5_balance 10 = .ok (.iconst 1, 1) := dk_4 (dk_at dksX5_balance_0 10 rfl rfl)
theorem dX5_balance_11 : decode cX5_balance 11 = .ok (.iconst 1, 1) := dk_4 (dk_at dksX5_balance_0 11 rfl rfl)
theorem dX5_balance_12 : decode cX5_balance 12 = .ok (.invokevirtual 183, 3) := dk_182 0 183 (dk_at dksX5_balance_0 12 rfl rfl)
theorem dX5_balance_15 : decode cX5_balance 15 = .ok (.ifCond .eq 11, 3) := dk_153 0 11 (dk_at dksX5_balance_0 15 rfl rfl)
theorem dX5_balance_18 : decode cX5_balance 18 = .ok (.aload_n 0, 1) := dk_42 (dk_at dksX5_balance_0 18 rfl rfl)
theorem dX5_balance_19 : decode cX5_balance 19 = .ok (.iload_n 1, 1) := dk_27 (dk_at dksX5_balance_0 19 rfl rfl)
theorem dX5_balance_20 : decode cX5_balance 20 = .ok (.invokevirtual 251, 3) := dk_182 0 251 (dk_at dksX5_balance_0 20 rfl rfl)
theorem dX5_balance_23 : decode cX5_balance 23 = .ok (.goto 4, 3) := dk_167 0 4 (dk_at dksX5_balance_1 0 rfl rfl)
theorem dX5_balance_26 : decode cX5_balance 26 = .ok (.lconst 0, 1) := dk_9 (dk_at dksX5_balance_1 3 rfl rfl)
theorem dX5_balance_27 : decode cX5_balance 27 = .ok (.lreturn, 1) := dk_173 (dk_at dksX5_balance_1 4 rfl rfl)
abbrev cX5_balanceOf : ByteArray := prog_13_method_62_code
def yX5_balanceOf : MethodName := ⟨RX5, "balanceOf", "(I)J"⟩
def dkwX5_balanceOf_1 : List UInt8 := [167, 0, 23, 27, 5, 160, 0, 12, 42, 180, 0, 7, 6, 47, 167, 0, 9, 42, 180, 0, 7, 7, 47, 173]
abbrev dktX5_balanceOf_1 : List UInt8 := dkwX5_balanceOf_1 ++ []
def dkwX5_balanceOf_0 : List UInt8 := [27, 154, 0, 12, 42, 180, 0, 7, 8, 47, 167, 0, 35, 27, 4, 160, 0, 10, 42, 182, 0, 230]
abbrev dktX5_balanceOf_0 : List UInt8 := dkwX5_balanceOf_0 ++ dktX5_balanceOf_1
theorem dksX5_balanceOf_0 : cX5_balanceOf.data.toList.drop 0 = dktX5_balanceOf_0 := by decide +kernel
theorem dksX5_balanceOf_1 : cX5_balanceOf.data.toList.drop 22 = dktX5_balanceOf_1 := dk_seg dksX5_balanceOf_0 22 rfl rfl
theorem dX5_balanceOf_0 : decode cX5_balanceOf 0 = .ok (.iload_n 1, 1) := dk_27 (dk_at dksX5_balanceOf_0 0 rfl rfl)
theorem dX5_balanceOf_1 : decode cX5_balanceOf 1 = .ok (.ifCond .ne 12, 3) := dk_154 0 12 (dk_at dksX5_balanceOf_0 1 rfl rfl)
theorem dX5_balanceOf_4 : decode cX5_balanceOf 4 = .ok (.aload_n 0, 1) := dk_42 (dk_at dksX5_balanceOf_0 4 rfl rfl)
theorem dX5_balanceOf_5 : decode cX5_balanceOf 5 = .ok (.getfield 7, 3) := dk_180 0 7 (dk_at dksX5_balanceOf_0 5 rfl rfl)
theorem dX5_balanceOf_8 : decode cX5_balanceOf 8 = .ok (.iconst 5, 1) := dk_8 (dk_at dksX5_balanceOf_0 8 rfl rfl)
theorem dX5_balanceOf_9 : decode cX5_balanceOf 9 = .ok (.laload, 1) := dk_47 (dk_at dksX5_balanceOf_0 9 rfl rfl)
theorem dX5_balanceOf_10 : decode cX5_balanceOf 10 = .ok (.goto 35, 3) := dk_167 0 35 (dk_at dksX5_balanceOf_0 10 rfl rfl)
theorem dX5_balanceOf_13 : decode cX5_balanceOf 13 = .ok (.iload_n 1, 1) := dk_27 (dk_at dksX5_balanceOf_0 13 rfl rfl)
theorem dX5_balanceOf_14 : decode cX5_balanceOf 14 = .ok (.iconst 1, 1) := dk_4 (dk_at dksX5_balanceOf_0 14 rfl rfl)
theorem dX5_balanceOf_15 : decode cX5_balanceOf 15 = .ok (.if_icmp .ne 10, 3) := dk_160 0 10 (dk_at dksX5_balanceOf_0 15 rfl rfl)
theorem dX5_balanceOf_18 : decode cX5_balanceOf 18 = .ok (.aload_n 0, 1) := dk_42 (dk_at dksX5_balanceOf_0 18 rfl rfl)
theorem dX5_balanceOf_19 : decode cX5_balanceOf 19 = .ok (.invokevirtual 230, 3) := dk_182 0 230 (dk_at dksX5_balanceOf_0 19 rfl rfl)
theorem dX5_balanceOf_22 : decode cX5_balanceOf 22 = .ok (.goto 23, 3) := dk_167 0 23 (dk_at dksX5_balanceOf_1 0 rfl rfl)
theorem dX5_balanceOf_25 : decode cX5_balanceOf 25 = .ok (.iload_n 1, 1) := dk_27 (dk_at dksX5_balanceOf_1 3 rfl rfl)
theorem dX5_balanceOf_26 : decode cX5_balanceOf 26 = .ok (.iconst 2, 1) := dk_5 (dk_at dksX5_balanceOf_1 4 rfl rfl)
theorem dX5_balanceOf_27 : decode cX5_balanceOf 27 = .ok (.if_icmp .ne 12, 3) := dk_160 0 12 (dk_at dksX5_balanceOf_1 5 rfl rfl)
theorem dX5_balanceOf_30 : decode cX5_balanceOf 30 = .ok (.aload_n 0, 1) := dk_42 (dk_at dksX5_balanceOf_1 8 rfl rfl)
theorem dX5_balanceOf_31 : decode cX5_balanceOf 31 = .ok (.getfield 7, 3) := dk_180 0 7 (dk_at dksX5_balanceOf_1 9 rfl rfl)
theorem dX5_balanceOf_34 : decode cX5_balanceOf 34 = .ok (.iconst 3, 1) := dk_6 (dk_at dksX5_balanceOf_1 12 rfl rfl)
theorem dX5_balanceOf_35 : decode cX5_balanceOf 35 = .ok (.laload, 1) := dk_47 (dk_at dksX5_balanceOf_1 13 rfl rfl)
theorem dX5_balanceOf_36 : decode cX5_balanceOf 36 = .ok (.goto 9, 3) := dk_167 0 9 (dk_at dksX5_balanceOf_1 14 rfl rfl)
theorem dX5_balanceOf_39 : decode cX5_balanceOf 39 = .ok (.aload_n 0, 1) := dk_42 (dk_at dksX5_balanceOf_1 17 rfl rfl)
theorem dX5_balanceOf_40 : decode cX5_balanceOf 40 = .ok (.getfield 7, 3) := dk_180 0 7 (dk_at dksX5_balanceOf_1 18 rfl rfl)
theorem dX5_balanceOf_43 : decode cX5_balanceOf 43 = .ok (.iconst 4, 1) := dk_7 (dk_at dksX5_balanceOf_1 21 rfl rfl)
theorem dX5_balanceOf_44 : decode cX5_balanceOf 44 = .ok (.laload, 1) := dk_47 (dk_at dksX5_balanceOf_1 22 rfl rfl)
theorem dX5_balanceOf_45 : decode cX5_balanceOf 45 = .ok (.lreturn, 1) := dk_173 (dk_at dksX5_balanceOf_1 23 rfl rfl)
abbrev cX5_lake : ByteArray := prog_13_method_66_code
def yX5_lake : MethodName := ⟨RX5, "lake", "(II)I"⟩
def dkwX5_lake_1 : List UInt8 := [28, 182, 1, 6, 167, 0, 4, 3, 172]
abbrev dktX5_lake_1 : List UInt8 := dkwX5_lake_1 ++ []
def dkwX5_lake_0 : List UInt8 := [42, 42, 27, 182, 0, 246, 28, 133, 9, 20, 1, 4, 184, 0, 65, 4, 182, 0, 183, 153, 0, 12, 42, 27]
abbrev dktX5_lake_0 : List UInt8 := dkwX5_lake_0 ++ dktX5_lake_1
theorem dksX5_lake_0 : cX5_lake.data.toList.drop 0 = dktX5_lake_0 := by decide +kernel
theorem dksX5_lake_1 : cX5_lake.data.toList.drop 24 = dktX5_lake_1 := dk_seg dksX5_lake_0 24 rfl rfl
theorem dX5_lake_0 : decode cX5_lake 0 = .ok (.aload_n 0, 1) := dk_42 (dk_at dksX5_lake_0 0 rfl rfl)
theorem dX5_lake_1 : decode cX5_lake 1 = .ok (.aload_n 0, 1) := dk_42 (dk_at dksX5_lake_0 1 rfl rfl)
theorem dX5_lake_2 : decode cX5_lake 2 = .ok (.iload_n 1, 1) := dk_27 (dk_at dksX5_lake_0 2 rfl rfl)
theorem dX5_lake_3 : decode cX5_lake 3 = .ok (.invokevirtual 246, 3) := dk_182 0 246 (dk_at dksX5_lake_0 3 rfl rfl)
theorem dX5_lake_6 : decode cX5_lake 6 = .ok (.iload_n 2, 1) := dk_28 (dk_at dksX5_lake_0 6 rfl rfl)
theorem dX5_lake_7 : decode cX5_lake 7 = .ok (.i2l, 1) := dk_133 (dk_at dksX5_lake_0 7 rfl rfl)
theorem dX5_lake_8 : decode cX5_lake 8 = .ok (.lconst 0, 1) := dk_9 (dk_at dksX5_lake_0 8 rfl rfl)
theorem dX5_lake_9 : decode cX5_lake 9 = .ok (.ldc2_w 260, 3) := dk_20 1 4 (dk_at dksX5_lake_0 9 rfl rfl)
theorem dX5_lake_12 : decode cX5_lake 12 = .ok (.invokestatic 65, 3) := dk_184 0 65 (dk_at dksX5_lake_0 12 rfl rfl)
theorem dX5_lake_15 : decode cX5_lake 15 = .ok (.iconst 1, 1) := dk_4 (dk_at dksX5_lake_0 15 rfl rfl)
theorem dX5_lake_16 : decode cX5_lake 16 = .ok (.invokevirtual 183, 3) := dk_182 0 183 (dk_at dksX5_lake_0 16 rfl rfl)
theorem dX5_lake_19 : decode cX5_lake 19 = .ok (.ifCond .eq 12, 3) := dk_153 0 12 (dk_at dksX5_lake_0 19 rfl rfl)
theorem dX5_lake_22 : decode cX5_lake 22 = .ok (.aload_n 0, 1) := dk_42 (dk_at dksX5_lake_0 22 rfl rfl)
theorem dX5_lake_23 : decode cX5_lake 23 = .ok (.iload_n 1, 1) := dk_27 (dk_at dksX5_lake_0 23 rfl rfl)
theorem dX5_lake_24 : decode cX5_lake 24 = .ok (.iload_n 2, 1) := dk_28 (dk_at dksX5_lake_1 0 rfl rfl)
theorem dX5_lake_25 : decode cX5_lake 25 = .ok (.invokevirtual 262, 3) := dk_182 1 6 (dk_at dksX5_lake_1 1 rfl rfl)
theorem dX5_lake_28 : decode cX5_lake 28 = .ok (.goto 4, 3) := dk_167 0 4 (dk_at dksX5_lake_1 4 rfl rfl)
theorem dX5_lake_31 : decode cX5_lake 31 = .ok (.iconst 0, 1) := dk_3 (dk_at dksX5_lake_1 7 rfl rfl)
theorem dX5_lake_32 : decode cX5_lake 32 = .ok (.ireturn, 1) := dk_172 (dk_at dksX5_lake_1 8 rfl rfl)
abbrev cX5_lakeValue : ByteArray := prog_13_method_65_code
def yX5_lakeValue : MethodName := ⟨RX5, "lakeValue", "(II)I"⟩
def dkwX5_lakeValue_5 : List UInt8 := [16, 7, 160, 0, 10, 42, 180, 0, 117, 167, 0, 7, 42, 180, 0, 120, 172]
abbrev dktX5_lakeValue_5 : List UInt8 := dkwX5_lakeValue_5 ++ []
def dkwX5_lakeValue_4 : List UInt8 := [182, 0, 142, 136, 172, 42, 29, 182, 0, 123, 28, 16, 6, 160, 0, 10, 42, 180, 0, 114, 167, 0, 20, 28]
abbrev dktX5_lakeValue_4 : List UInt8 := dkwX5_lakeValue_4 ++ dktX5_lakeValue_5
def dkwX5_lakeValue_3 : List UInt8 := [172, 22, 4, 184, 0, 254, 172, 42, 22, 4, 182, 0, 168, 172, 42, 22, 4, 182, 1, 1, 172, 42, 29]
abbrev dktX5_lakeValue_3 : List UInt8 := dkwX5_lakeValue_3 ++ dktX5_lakeValue_4
def dkwX5_lakeValue_2 : List UInt8 := [42, 180, 0, 7, 17, 0, 224, 29, 96, 47, 136, 172, 42, 29, 182, 0, 127, 136, 172, 22, 4, 184, 0, 111]
abbrev dktX5_lakeValue_2 : List UInt8 := dkwX5_lakeValue_2 ++ dktX5_lakeValue_3
def dkwX5_lakeValue_1 : List UInt8 := [170, 0, 0, 0, 0, 0, 0, 108, 0, 0, 0, 0, 0, 0, 0, 9, 0, 0, 0, 56, 0, 0, 0, 68, 0, 0, 0, 75, 0, 0, 0, 81, 0, 0, 0, 87, 0, 0, 0, 94, 0, 0, 0, 108, 0, 0, 0, 108, 0, 0, 0, 108, 0, 0, 0, 101]
abbrev dktX5_lakeValue_1 : List UInt8 := dkwX5_lakeValue_1 ++ dktX5_lakeValue_2
def dkwX5_lakeValue_0 : List UInt8 := [42, 182, 0, 152, 42, 180, 0, 29, 27, 46, 62, 42, 180, 0, 7, 17, 0, 152, 29, 96, 47, 55, 4, 28]
abbrev dktX5_lakeValue_0 : List UInt8 := dkwX5_lakeValue_0 ++ dktX5_lakeValue_1
theorem dksX5_lakeValue_0 : cX5_lakeValue.data.toList.drop 0 = dktX5_lakeValue_0 := by decide +kernel
theorem dksX5_lakeValue_1 : cX5_lakeValue.data.toList.drop 24 = dktX5_lakeValue_1 := dk_seg dksX5_lakeValue_0 24 rfl rfl
theorem dksX5_lakeValue_2 : cX5_lakeValue.data.toList.drop 80 = dktX5_lakeValue_2 := dk_seg dksX5_lakeValue_1 56 rfl rfl
theorem dksX5_lakeValue_3 : cX5_lakeValue.data.toList.drop 104 = dktX5_lakeValue_3 := dk_seg dksX5_lakeValue_2 24 rfl rfl
theorem dksX5_lakeValue_4 : cX5_lakeValue.data.toList.drop 127 = dktX5_lakeValue_4 := dk_seg dksX5_lakeValue_3 23 rfl rfl
theorem dksX5_lakeValue_5 : cX5_lakeValue.data.toList.drop 151 = dktX5_lakeValue_5 := dk_seg dksX5_lakeValue_4 24 rfl rfl
theorem dX5_lakeValue_0 : decode cX5_lakeValue 0 = .ok (.aload_n 0, 1) := dk_42 (dk_at dksX5_lakeValue_0 0 rfl rfl)
theorem dX5_lakeValue_1 : decode cX5_lakeValue 1 = .ok (.invokevirtual 152, 3) := dk_182 0 152 (dk_at dksX5_lakeValue_0 1 rfl rfl)
theorem dX5_lakeValue_4 : decode cX5_lakeValue 4 = .ok (.aload_n 0, 1) := dk_42 (dk_at dksX5_lakeValue_0 4 rfl rfl)
theorem dX5_lakeValue_5 : decode cX5_lakeValue 5 = .ok (.getfield 29, 3) := dk_180 0 29 (dk_at dksX5_lakeValue_0 5 rfl rfl)
theorem dX5_lakeValue_8 : decode cX5_lakeValue 8 = .ok (.iload_n 1, 1) := dk_27 (dk_at dksX5_lakeValue_0 8 rfl rfl)
theorem dX5_lakeValue_9 : decode cX5_lakeValue 9 = .ok (.iaload, 1) := dk_46 (dk_at dksX5_lakeValue_0 9 rfl rfl)
theorem dX5_lakeValue_10 : decode cX5_lakeValue 10 = .ok (.istore_n 3, 1) := dk_62 (dk_at dksX5_lakeValue_0 10 rfl rfl)
theorem dX5_lakeValue_11 : decode cX5_lakeValue 11 = .ok (.aload_n 0, 1) := dk_42 (dk_at dksX5_lakeValue_0 11 rfl rfl)
theorem dX5_lakeValue_12 : decode cX5_lakeValue 12 = .ok (.getfield 7, 3) := dk_180 0 7 (dk_at dksX5_lakeValue_0 12 rfl rfl)
theorem dX5_lakeValue_15 : decode cX5_lakeValue 15 = .ok (.sipush 152, 3) := dk_17 0 152 (dk_at dksX5_lakeValue_0 15 rfl rfl)
theorem dX5_lakeValue_18 : decode cX5_lakeValue 18 = .ok (.iload_n 3, 1) := dk_29 (dk_at dksX5_lakeValue_0 18 rfl rfl)
theorem dX5_lakeValue_19 : decode cX5_lakeValue 19 = .ok (.iadd, 1) := dk_96 (dk_at dksX5_lakeValue_0 19 rfl rfl)
theorem dX5_lakeValue_20 : decode cX5_lakeValue 20 = .ok (.laload, 1) := dk_47 (dk_at dksX5_lakeValue_0 20 rfl rfl)
theorem dX5_lakeValue_21 : decode cX5_lakeValue 21 = .ok (.lstore 4, 2) := dk_55 4 (dk_at dksX5_lakeValue_0 21 rfl rfl)
theorem dX5_lakeValue_23 : decode cX5_lakeValue 23 = .ok (.iload_n 2, 1) := dk_28 (dk_at dksX5_lakeValue_0 23 rfl rfl)
theorem dX5_lakeValue_24 : decode cX5_lakeValue 24 = .ok (.tableswitch 108 0 9 #[56, 68, 75, 81, 87, 94, 108, 108, 108, 101], 56) := by decide +kernel
theorem dX5_lakeValue_80 : decode cX5_lakeValue 80 = .ok (.aload_n 0, 1) := dk_42 (dk_at dksX5_lakeValue_2 0 rfl rfl)
theorem dX5_lakeValue_81 : decode cX5_lakeValue 81 = .ok (.getfield 7, 3) := dk_180 0 7 (dk_at dksX5_lakeValue_2 1 rfl rfl)
theorem dX5_lakeValue_84 : decode cX5_lakeValue 84 = .ok (.sipush 224, 3) := dk_17 0 224 (dk_at dksX5_lakeValue_2 4 rfl rfl)
theorem dX5_lakeValue_87 : decode cX5_lakeValue 87 = .ok (.iload_n 3, 1) := dk_29 (dk_at dksX5_lakeValue_2 7 rfl rfl)
theorem dX5_lakeValue_88 : decode cX5_lakeValue 88 = .ok (.iadd, 1) := dk_96 (dk_at dksX5_lakeValue_2 8 rfl rfl)
theorem dX5_lakeValue_89 : decode cX5_lakeValue 89 = .ok (.laload, 1) := dk_47 (dk_at dksX5_lakeValue_2 9 rfl rfl)
theorem dX5_lakeValue_90 : decode cX5_lakeValue 90 = .ok (.l2i, 1) := dk_136 (dk_at dksX5_lakeValue_2 10 rfl rfl)
theorem dX5_lakeValue_91 : decode cX5_lakeValue 91 = .ok (.ireturn, 1) := dk_172 (dk_at dksX5_lakeValue_2 11 rfl rfl)
theorem dX5_lakeValue_92 : decode cX5_lakeValue 92 = .ok (.aload_n 0, 1) := dk_42 (dk_at dksX5_lakeValue_2 12 rfl rfl)
theorem dX5_lakeValue_93 : decode cX5_lakeValue 93 = .ok (.iload_n 3, 1) := dk_29 (dk_at dksX5_lakeValue_2 13 rfl rfl)
theorem dX5_lakeValue_94 : decode cX5_lakeValue 94 = .ok (.invokevirtual 127, 3) := dk_182 0 127 (dk_at dksX5_lakeValue_2 14 rfl rfl)
theorem dX5_lakeValue_97 : decode cX5_lakeValue 97 = .ok (.l2i, 1) := dk_136 (dk_at dksX5_lakeValue_2 17 rfl rfl)
theorem dX5_lakeValue_98 : decode cX5_lakeValue 98 = .ok (.ireturn, 1) := dk_172 (dk_at dksX5_lakeValue_2 18 rfl rfl)
theorem dX5_lakeValue_99 : decode cX5_lakeValue 99 = .ok (.lload 4, 2) := dk_22 4 (dk_at dksX5_lakeValue_2 19 rfl rfl)
theorem dX5_lakeValue_101 : decode cX5_lakeValue 101 = .ok (.invokestatic 111, 3) := dk_184 0 111 (dk_at dksX5_lakeValue_2 21 rfl rfl)
theorem dX5_lakeValue_104 : decode cX5_lakeValue 104 = .ok (.ireturn, 1) := dk_172 (dk_at dksX5_lakeValue_3 0 rfl rfl)
theorem dX5_lakeValue_105 : decode cX5_lakeValue 105 = .ok (.lload 4, 2) := dk_22 4 (dk_at dksX5_lakeValue_3 1 rfl rfl)
theorem dX5_lakeValue_107 : decode cX5_lakeValue 107 = .ok (.invokestatic 254, 3) := dk_184 0 254 (dk_at dksX5_lakeValue_3 3 rfl rfl)
theorem dX5_lakeValue_110 : decode cX5_lakeValue 110 = .ok (.ireturn, 1) := dk_172 (dk_at dksX5_lakeValue_3 6 rfl rfl)
theorem dX5_lakeValue_111 : decode cX5_lakeValue 111 = .ok (.aload_n 0, 1) := dk_42 (dk_at dksX5_lakeValue_3 7 rfl rfl)
theorem dX5_lakeValue_112 : decode cX5_lakeValue 112 = .ok (.lload 4, 2) := dk_22 4 (dk_at dksX5_lakeValue_3 8 rfl rfl)
theorem dX5_lakeValue_114 : decode cX5_lakeValue 114 = .ok (.invokevirtual 168, 3) := dk_182 0 168 (dk_at dksX5_lakeValue_3 10 rfl rfl)
theorem dX5_lakeValue_117 : decode cX5_lakeValue 117 = .ok (.ireturn, 1) := dk_172 (dk_at dksX5_lakeValue_3 13 rfl rfl)
theorem dX5_lakeValue_118 : decode cX5_lakeValue 118 = .ok (.aload_n 0, 1) := dk_42 (dk_at dksX5_lakeValue_3 14 rfl rfl)
theorem dX5_lakeValue_119 : decode cX5_lakeValue 119 = .ok (.lload 4, 2) := dk_22 4 (dk_at dksX5_lakeValue_3 15 rfl rfl)
theorem dX5_lakeValue_121 : decode cX5_lakeValue 121 = .ok (.invokevirtual 257, 3) := dk_182 1 1 (dk_at dksX5_lakeValue_3 17 rfl rfl)
theorem dX5_lakeValue_124 : decode cX5_lakeValue 124 = .ok (.ireturn, 1) := dk_172 (dk_at dksX5_lakeValue_3 20 rfl rfl)
theorem dX5_lakeValue_125 : decode cX5_lakeValue 125 = .ok (.aload_n 0, 1) := dk_42 (dk_at dksX5_lakeValue_3 21 rfl rfl)
theorem dX5_lakeValue_126 : decode cX5_lakeValue 126 = .ok (.iload_n 3, 1) := dk_29 (dk_at dksX5_lakeValue_3 22 rfl rfl)
theorem dX5_lakeValue_127 : decode cX5_lakeValue 127 = .ok (.invokevirtual 142, 3) := dk_182 0 142 (dk_at dksX5_lakeValue_4 0 rfl rfl)
theorem dX5_lakeValue_130 : decode cX5_lakeValue 130 = .ok (.l2i, 1) := dk_136 (dk_at dksX5_lakeValue_4 3 rfl rfl)
theorem dX5_lakeValue_131 : decode cX5_lakeValue 131 = .ok (.ireturn, 1) := dk_172 (dk_at dksX5_lakeValue_4 4 rfl rfl)
theorem dX5_lakeValue_132 : decode cX5_lakeValue 132 = .ok (.aload_n 0, 1) := dk_42 (dk_at dksX5_lakeValue_4 5 rfl rfl)
theorem dX5_lakeValue_133 : decode cX5_lakeValue 133 = .ok (.iload_n 3, 1) := dk_29 (dk_at dksX5_lakeValue_4 6 rfl rfl)
theorem dX5_lakeValue_134 : decode cX5_lakeValue 134 = .ok (.invokevirtual 123, 3) := dk_182 0 123 (dk_at dksX5_lakeValue_4 7 rfl rfl)
theorem dX5_lakeValue_137 : decode cX5_lakeValue 137 = .ok (.iload_n 2, 1) := dk_28 (dk_at dksX5_lakeValue_4 10 rfl rfl)
theorem dX5_lakeValue_138 : decode cX5_lakeValue 138 = .ok (.bipush 6, 2) := dk_16 6 (dk_at dksX5_lakeValue_4 11 rfl rfl)
theorem dX5_lakeValue_140 : decode cX5_lakeValue 140 = .ok (.if_icmp .ne 10, 3) := dk_160 0 10 (dk_at dksX5_lakeValue_4 13 rfl rfl)
theorem dX5_lakeValue_143 : decode cX5_lakeValue 143 = .ok (.aload_n 0, 1) := dk_42 (dk_at dksX5_lakeValue_4 16 rfl rfl)
theorem dX5_lakeValue_144 : decode cX5_lakeValue 144 = .ok (.getfield 114, 3) := dk_180 0 114 (dk_at dksX5_lakeValue_4 17 rfl rfl)
theorem dX5_lakeValue_147 : decode cX5_lakeValue 147 = .ok (.goto 20, 3) := dk_167 0 20 (dk_at dksX5_lakeValue_4 20 rfl rfl)
theorem dX5_lakeValue_150 : decode cX5_lakeValue 150 = .ok (.iload_n 2, 1) := dk_28 (dk_at dksX5_lakeValue_4 23 rfl rfl)
theorem dX5_lakeValue_151 : decode cX5_lakeValue 151 = .ok (.bipush 7, 2) := dk_16 7 (dk_at dksX5_lakeValue_5 0 rfl rfl)
theorem dX5_lakeValue_153 : decode cX5_lakeValue 153 = .ok (.if_icmp .ne 10, 3) := dk_160 0 10 (dk_at dksX5_lakeValue_5 2 rfl rfl)
theorem dX5_lakeValue_156 : decode cX5_lakeValue 156 = .ok (.aload_n 0, 1) := dk_42 (dk_at dksX5_lakeValue_5 5 rfl rfl)
theorem dX5_lakeValue_157 : decode cX5_lakeValue 157 = .ok (.getfield 117, 3) := dk_180 0 117 (dk_at dksX5_lakeValue_5 6 rfl rfl)
theorem dX5_lakeValue_160 : decode cX5_lakeValue 160 = .ok (.goto 7, 3) := dk_167 0 7 (dk_at dksX5_lakeValue_5 9 rfl rfl)
theorem dX5_lakeValue_163 : decode cX5_lakeValue 163 = .ok (.aload_n 0, 1) := dk_42 (dk_at dksX5_lakeValue_5 12 rfl rfl)
theorem dX5_lakeValue_164 : decode cX5_lakeValue 164 = .ok (.getfield 120, 3) := dk_180 0 120 (dk_at dksX5_lakeValue_5 13 rfl rfl)
theorem dX5_lakeValue_167 : decode cX5_lakeValue 167 = .ok (.ireturn, 1) := dk_172 (dk_at dksX5_lakeValue_5 16 rfl rfl)
