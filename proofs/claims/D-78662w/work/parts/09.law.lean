/-! LakeLevelsLaw -/
set_option maxRecDepth 100000
def RX0 : String := "LakeLevelsLaw"
abbrev cX0_begin : ByteArray := method_3_code
def yX0_begin : MethodName := ⟨RX0, "begin", "(LLakeLevels;II[J)I"⟩
def dkwX0_begin_0 : List UInt8 := [45, 3, 42, 27, 28, 182, 0, 7, 133, 80, 167, 0, 7, 58, 4, 4, 172, 3, 172]
abbrev dktX0_begin_0 : List UInt8 := dkwX0_begin_0 ++ []
theorem dksX0_begin_0 : cX0_begin.data.toList.drop 0 = dktX0_begin_0 := by decide +kernel
theorem dX0_begin_0 : decode cX0_begin 0 = .ok (.aload_n 3, 1) := dk_45 (dk_at dksX0_begin_0 0 rfl rfl)
theorem dX0_begin_1 : decode cX0_begin 1 = .ok (.iconst 0, 1) := dk_3 (dk_at dksX0_begin_0 1 rfl rfl)
theorem dX0_begin_2 : decode cX0_begin 2 = .ok (.aload_n 0, 1) := dk_42 (dk_at dksX0_begin_0 2 rfl rfl)
theorem dX0_begin_3 : decode cX0_begin 3 = .ok (.iload_n 1, 1) := dk_27 (dk_at dksX0_begin_0 3 rfl rfl)
theorem dX0_begin_4 : decode cX0_begin 4 = .ok (.iload_n 2, 1) := dk_28 (dk_at dksX0_begin_0 4 rfl rfl)
theorem dX0_begin_5 : decode cX0_begin 5 = .ok (.invokevirtual 7, 3) := dk_182 0 7 (dk_at dksX0_begin_0 5 rfl rfl)
theorem dX0_begin_8 : decode cX0_begin 8 = .ok (.i2l, 1) := dk_133 (dk_at dksX0_begin_0 8 rfl rfl)
theorem dX0_begin_9 : decode cX0_begin 9 = .ok (.lastore, 1) := dk_80 (dk_at dksX0_begin_0 9 rfl rfl)
theorem dX0_begin_10 : decode cX0_begin 10 = .ok (.goto 7, 3) := dk_167 0 7 (dk_at dksX0_begin_0 10 rfl rfl)
theorem dX0_begin_13 : decode cX0_begin 13 = .ok (.astore 4, 2) := dk_58 4 (dk_at dksX0_begin_0 13 rfl rfl)
theorem dX0_begin_15 : decode cX0_begin 15 = .ok (.iconst 1, 1) := dk_4 (dk_at dksX0_begin_0 15 rfl rfl)
theorem dX0_begin_16 : decode cX0_begin 16 = .ok (.ireturn, 1) := dk_172 (dk_at dksX0_begin_0 16 rfl rfl)
theorem dX0_begin_17 : decode cX0_begin 17 = .ok (.iconst 0, 1) := dk_3 (dk_at dksX0_begin_0 17 rfl rfl)
theorem dX0_begin_18 : decode cX0_begin 18 = .ok (.ireturn, 1) := dk_172 (dk_at dksX0_begin_0 18 rfl rfl)
abbrev cX0_setHeight : ByteArray := method_4_code
def yX0_setHeight : MethodName := ⟨RX0, "setHeight", "(LLakeLevels;II[J)I"⟩
def dkwX0_setHeight_0 : List UInt8 := [45, 3, 42, 27, 28, 182, 0, 15, 133, 80, 167, 0, 11, 58, 4, 4, 172, 58, 4, 5, 172, 3, 172]
abbrev dktX0_setHeight_0 : List UInt8 := dkwX0_setHeight_0 ++ []
theorem dksX0_setHeight_0 : cX0_setHeight.data.toList.drop 0 = dktX0_setHeight_0 := by decide +kernel
theorem dX0_setHeight_0 : decode cX0_setHeight 0 = .ok (.aload_n 3, 1) := dk_45 (dk_at dksX0_setHeight_0 0 rfl rfl)
theorem dX0_setHeight_1 : decode cX0_setHeight 1 = .ok (.iconst 0, 1) := dk_3 (dk_at dksX0_setHeight_0 1 rfl rfl)
theorem dX0_setHeight_2 : decode cX0_setHeight 2 = .ok (.aload_n 0, 1) := dk_42 (dk_at dksX0_setHeight_0 2 rfl rfl)
theorem dX0_setHeight_3 : decode cX0_setHeight 3 = .ok (.iload_n 1, 1) := dk_27 (dk_at dksX0_setHeight_0 3 rfl rfl)
theorem dX0_setHeight_4 : decode cX0_setHeight 4 = .ok (.iload_n 2, 1) := dk_28 (dk_at dksX0_setHeight_0 4 rfl rfl)
theorem dX0_setHeight_5 : decode cX0_setHeight 5 = .ok (.invokevirtual 15, 3) := dk_182 0 15 (dk_at dksX0_setHeight_0 5 rfl rfl)
theorem dX0_setHeight_8 : decode cX0_setHeight 8 = .ok (.i2l, 1) := dk_133 (dk_at dksX0_setHeight_0 8 rfl rfl)
theorem dX0_setHeight_9 : decode cX0_setHeight 9 = .ok (.lastore, 1) := dk_80 (dk_at dksX0_setHeight_0 9 rfl rfl)
theorem dX0_setHeight_10 : decode cX0_setHeight 10 = .ok (.goto 11, 3) := dk_167 0 11 (dk_at dksX0_setHeight_0 10 rfl rfl)
theorem dX0_setHeight_13 : decode cX0_setHeight 13 = .ok (.astore 4, 2) := dk_58 4 (dk_at dksX0_setHeight_0 13 rfl rfl)
theorem dX0_setHeight_15 : decode cX0_setHeight 15 = .ok (.iconst 1, 1) := dk_4 (dk_at dksX0_setHeight_0 15 rfl rfl)
theorem dX0_setHeight_16 : decode cX0_setHeight 16 = .ok (.ireturn, 1) := dk_172 (dk_at dksX0_setHeight_0 16 rfl rfl)
theorem dX0_setHeight_17 : decode cX0_setHeight 17 = .ok (.astore 4, 2) := dk_58 4 (dk_at dksX0_setHeight_0 17 rfl rfl)
theorem dX0_setHeight_19 : decode cX0_setHeight 19 = .ok (.iconst 2, 1) := dk_5 (dk_at dksX0_setHeight_0 19 rfl rfl)
theorem dX0_setHeight_20 : decode cX0_setHeight 20 = .ok (.ireturn, 1) := dk_172 (dk_at dksX0_setHeight_0 20 rfl rfl)
theorem dX0_setHeight_21 : decode cX0_setHeight 21 = .ok (.iconst 0, 1) := dk_3 (dk_at dksX0_setHeight_0 21 rfl rfl)
theorem dX0_setHeight_22 : decode cX0_setHeight 22 = .ok (.ireturn, 1) := dk_172 (dk_at dksX0_setHeight_0 22 rfl rfl)
abbrev cX0_setDrain : ByteArray := method_5_code
def yX0_setDrain : MethodName := ⟨RX0, "setDrain", "(LLakeLevels;IZ[J)I"⟩
def dkwX0_setDrain_1 : List UInt8 := [3, 172]
abbrev dktX0_setDrain_1 : List UInt8 := dkwX0_setDrain_1 ++ []
def dkwX0_setDrain_0 : List UInt8 := [45, 3, 42, 27, 28, 182, 0, 20, 153, 0, 7, 10, 167, 0, 4, 9, 80, 167, 0, 7, 58, 4, 4, 172]
abbrev dktX0_setDrain_0 : List UInt8 := dkwX0_setDrain_0 ++ dktX0_setDrain_1
theorem dksX0_setDrain_0 : cX0_setDrain.data.toList.drop 0 = dktX0_setDrain_0 := by decide +kernel
theorem dksX0_setDrain_1 : cX0_setDrain.data.toList.drop 24 = dktX0_setDrain_1 := dk_seg dksX0_setDrain_0 24 rfl rfl
theorem dX0_setDrain_0 : decode cX0_setDrain 0 = .ok (.aload_n 3, 1) := dk_45 (dk_at dksX0_setDrain_0 0 rfl rfl)
theorem dX0_setDrain_1 : decode cX0_setDrain 1 = .ok (.iconst 0, 1) := dk_3 (dk_at dksX0_setDrain_0 1 rfl rfl)
theorem dX0_setDrain_2 : decode cX0_setDrain 2 = .ok (.aload_n 0, 1) := dk_42 (dk_at dksX0_setDrain_0 2 rfl rfl)
theorem dX0_setDrain_3 : decode cX0_setDrain 3 = .ok (.iload_n 1, 1) := dk_27 (dk_at dksX0_setDrain_0 3 rfl rfl)
theorem dX0_setDrain_4 : decode cX0_setDrain 4 = .ok (.iload_n 2, 1) := dk_28 (dk_at dksX0_setDrain_0 4 rfl rfl)
theorem dX0_setDrain_5 : decode cX0_setDrain 5 = .ok (.invokevirtual 20, 3) := dk_182 0 20 (dk_at dksX0_setDrain_0 5 rfl rfl)
theorem dX0_setDrain_8 : decode cX0_setDrain 8 = .ok (.ifCond .eq 7, 3) := dk_153 0 7 (dk_at dksX0_setDrain_0 8 rfl rfl)
theorem dX0_setDrain_11 : decode cX0_setDrain 11 = .ok (.lconst 1, 1) := dk_10 (dk_at dksX0_setDrain_0 11 rfl rfl)
theorem dX0_setDrain_12 : decode cX0_setDrain 12 = .ok (.goto 4, 3) := dk_167 0 4 (dk_at dksX0_setDrain_0 12 rfl rfl)
theorem dX0_setDrain_15 : decode cX0_setDrain 15 = .ok (.lconst 0, 1) := dk_9 (dk_at dksX0_setDrain_0 15 rfl rfl)
theorem dX0_setDrain_16 : decode cX0_setDrain 16 = .ok (.lastore, 1) := dk_80 (dk_at dksX0_setDrain_0 16 rfl rfl)
theorem dX0_setDrain_17 : decode cX0_setDrain 17 = .ok (.goto 7, 3) := dk_167 0 7 (dk_at dksX0_setDrain_0 17 rfl rfl)
theorem dX0_setDrain_20 : decode cX0_setDrain 20 = .ok (.astore 4, 2) := dk_58 4 (dk_at dksX0_setDrain_0 20 rfl rfl)
theorem dX0_setDrain_22 : decode cX0_setDrain 22 = .ok (.iconst 1, 1) := dk_4 (dk_at dksX0_setDrain_0 22 rfl rfl)
theorem dX0_setDrain_23 : decode cX0_setDrain 23 = .ok (.ireturn, 1) := dk_172 (dk_at dksX0_setDrain_0 23 rfl rfl)
theorem dX0_setDrain_24 : decode cX0_setDrain 24 = .ok (.iconst 0, 1) := dk_3 (dk_at dksX0_setDrain_1 0 rfl rfl)
theorem dX0_setDrain_25 : decode cX0_setDrain 25 = .ok (.ireturn, 1) := dk_172 (dk_at dksX0_setDrain_1 1 rfl rfl)
abbrev cX0_setGate : ByteArray := method_6_code
def yX0_setGate : MethodName := ⟨RX0, "setGate", "(LLakeLevels;III[J)I"⟩
def dkwX0_setGate_1 : List UInt8 := [172]
abbrev dktX0_setGate_1 : List UInt8 := dkwX0_setGate_1 ++ []
def dkwX0_setGate_0 : List UInt8 := [25, 4, 3, 42, 27, 28, 29, 182, 0, 24, 133, 80, 167, 0, 11, 58, 5, 4, 172, 58, 5, 5, 172, 3]
abbrev dktX0_setGate_0 : List UInt8 := dkwX0_setGate_0 ++ dktX0_setGate_1
theorem dksX0_setGate_0 : cX0_setGate.data.toList.drop 0 = dktX0_setGate_0 := by decide +kernel
theorem dksX0_setGate_1 : cX0_setGate.data.toList.drop 24 = dktX0_setGate_1 := dk_seg dksX0_setGate_0 24 rfl rfl
theorem dX0_setGate_0 : decode cX0_setGate 0 = .ok (.aload 4, 2) := dk_25 4 (dk_at dksX0_setGate_0 0 rfl rfl)
theorem dX0_setGate_2 : decode cX0_setGate 2 = .ok (.iconst 0, 1) := dk_3 (dk_at dksX0_setGate_0 2 rfl rfl)
theorem dX0_setGate_3 : decode cX0_setGate 3 = .ok (.aload_n 0, 1) := dk_42 (dk_at dksX0_setGate_0 3 rfl rfl)
theorem dX0_setGate_4 : decode cX0_setGate 4 = .ok (.iload_n 1, 1) := dk_27 (dk_at dksX0_setGate_0 4 rfl rfl)
theorem dX0_setGate_5 : decode cX0_setGate 5 = .ok (.iload_n 2, 1) := dk_28 (dk_at dksX0_setGate_0 5 rfl rfl)
theorem dX0_setGate_6 : decode cX0_setGate 6 = .ok (.iload_n 3, 1) := dk_29 (dk_at dksX0_setGate_0 6 rfl rfl)
theorem dX0_setGate_7 : decode cX0_setGate 7 = .ok (.invokevirtual 24, 3) := dk_182 0 24 (dk_at dksX0_setGate_0 7 rfl rfl)
theorem dX0_setGate_10 : decode cX0_setGate 10 = .ok (.i2l, 1) := dk_133 (dk_at dksX0_setGate_0 10 rfl rfl)
theorem dX0_setGate_11 : decode cX0_setGate 11 = .ok (.lastore, 1) := dk_80 (dk_at dksX0_setGate_0 11 rfl rfl)
theorem dX0_setGate_12 : decode cX0_setGate 12 = .ok (.goto 11, 3) := dk_167 0 11 (dk_at dksX0_setGate_0 12 rfl rfl)
theorem dX0_setGate_15 : decode cX0_setGate 15 = .ok (.astore 5, 2) := dk_58 5 (dk_at dksX0_setGate_0 15 rfl rfl)
theorem dX0_setGate_17 : decode cX0_setGate 17 = .ok (.iconst 1, 1) := dk_4 (dk_at dksX0_setGate_0 17 rfl rfl)
theorem dX0_setGate_18 : decode cX0_setGate 18 = .ok (.ireturn, 1) := dk_172 (dk_at dksX0_setGate_0 18 rfl rfl)
theorem dX0_setGate_19 : decode cX0_setGate 19 = .ok (.astore 5, 2) := dk_58 5 (dk_at dksX0_setGate_0 19 rfl rfl)
theorem dX0_setGate_21 : decode cX0_setGate 21 = .ok (.iconst 2, 1) := dk_5 (dk_at dksX0_setGate_0 21 rfl rfl)
theorem dX0_setGate_22 : decode cX0_setGate 22 = .ok (.ireturn, 1) := dk_172 (dk_at dksX0_setGate_0 22 rfl rfl)
theorem dX0_setGate_23 : decode cX0_setGate 23 = .ok (.iconst 0, 1) := dk_3 (dk_at dksX0_setGate_0 23 rfl rfl)
theorem dX0_setGate_24 : decode cX0_setGate 24 = .ok (.ireturn, 1) := dk_172 (dk_at dksX0_setGate_1 0 rfl rfl)
abbrev cX0_random : ByteArray := method_7_code
def yX0_random : MethodName := ⟨RX0, "random", "(LLakeLevels;II[J)I"⟩
def dkwX0_random_0 : List UInt8 := [45, 3, 42, 27, 28, 182, 0, 28, 133, 80, 167, 0, 7, 58, 4, 4, 172, 3, 172]
abbrev dktX0_random_0 : List UInt8 := dkwX0_random_0 ++ []
theorem dksX0_random_0 : cX0_random.data.toList.drop 0 = dktX0_random_0 := by decide +kernel
theorem dX0_random_0 : decode cX0_random 0 = .ok (.aload_n 3, 1) := dk_45 (dk_at dksX0_random_0 0 rfl rfl)
theorem dX0_random_1 : decode cX0_random 1 = .ok (.iconst 0, 1) := dk_3 (dk_at dksX0_random_0 1 rfl rfl)
theorem dX0_random_2 : decode cX0_random 2 = .ok (.aload_n 0, 1) := dk_42 (dk_at dksX0_random_0 2 rfl rfl)
theorem dX0_random_3 : decode cX0_random 3 = .ok (.iload_n 1, 1) := dk_27 (dk_at dksX0_random_0 3 rfl rfl)
theorem dX0_random_4 : decode cX0_random 4 = .ok (.iload_n 2, 1) := dk_28 (dk_at dksX0_random_0 4 rfl rfl)
theorem dX0_random_5 : decode cX0_random 5 = .ok (.invokevirtual 28, 3) := dk_182 0 28 (dk_at dksX0_random_0 5 rfl rfl)
theorem dX0_random_8 : decode cX0_random 8 = .ok (.i2l, 1) := dk_133 (dk_at dksX0_random_0 8 rfl rfl)
theorem dX0_random_9 : decode cX0_random 9 = .ok (.lastore, 1) := dk_80 (dk_at dksX0_random_0 9 rfl rfl)
theorem dX0_random_10 : decode cX0_random 10 = .ok (.goto 7, 3) := dk_167 0 7 (dk_at dksX0_random_0 10 rfl rfl)
theorem dX0_random_13 : decode cX0_random 13 = .ok (.astore 4, 2) := dk_58 4 (dk_at dksX0_random_0 13 rfl rfl)
theorem dX0_random_15 : decode cX0_random 15 = .ok (.iconst 1, 1) := dk_4 (dk_at dksX0_random_0 15 rfl rfl)
theorem dX0_random_16 : decode cX0_random 16 = .ok (.ireturn, 1) := dk_172 (dk_at dksX0_random_0 16 rfl rfl)
theorem dX0_random_17 : decode cX0_random 17 = .ok (.iconst 0, 1) := dk_3 (dk_at dksX0_random_0 17 rfl rfl)
theorem dX0_random_18 : decode cX0_random 18 = .ok (.ireturn, 1) := dk_172 (dk_at dksX0_random_0 18 rfl rfl)
abbrev cX0_cell : ByteArray := method_8_code
def yX0_cell : MethodName := ⟨RX0, "cell", "(LLakeLevels;II[J)I"⟩
def dkwX0_cell_0 : List UInt8 := [45, 3, 42, 27, 28, 182, 0, 31, 133, 80, 167, 0, 11, 58, 4, 4, 172, 58, 4, 5, 172, 3, 172]
abbrev dktX0_cell_0 : List UInt8 := dkwX0_cell_0 ++ []
theorem dksX0_cell_0 : cX0_cell.data.toList.drop 0 = dktX0_cell_0 := by decide +kernel
theorem dX0_cell_0 : decode cX0_cell 0 = .ok (.aload_n 3, 1) := dk_45 (dk_at dksX0_cell_0 0 rfl rfl)
theorem dX0_cell_1 : decode cX0_cell 1 = .ok (.iconst 0, 1) := dk_3 (dk_at dksX0_cell_0 1 rfl rfl)
theorem dX0_cell_2 : decode cX0_cell 2 = .ok (.aload_n 0, 1) := dk_42 (dk_at dksX0_cell_0 2 rfl rfl)
theorem dX0_cell_3 : decode cX0_cell 3 = .ok (.iload_n 1, 1) := dk_27 (dk_at dksX0_cell_0 3 rfl rfl)
theorem dX0_cell_4 : decode cX0_cell 4 = .ok (.iload_n 2, 1) := dk_28 (dk_at dksX0_cell_0 4 rfl rfl)
theorem dX0_cell_5 : decode cX0_cell 5 = .ok (.invokevirtual 31, 3) := dk_182 0 31 (dk_at dksX0_cell_0 5 rfl rfl)
theorem dX0_cell_8 : decode cX0_cell 8 = .ok (.i2l, 1) := dk_133 (dk_at dksX0_cell_0 8 rfl rfl)
theorem dX0_cell_9 : decode cX0_cell 9 = .ok (.lastore, 1) := dk_80 (dk_at dksX0_cell_0 9 rfl rfl)
theorem dX0_cell_10 : decode cX0_cell 10 = .ok (.goto 11, 3) := dk_167 0 11 (dk_at dksX0_cell_0 10 rfl rfl)
theorem dX0_cell_13 : decode cX0_cell 13 = .ok (.astore 4, 2) := dk_58 4 (dk_at dksX0_cell_0 13 rfl rfl)
theorem dX0_cell_15 : decode cX0_cell 15 = .ok (.iconst 1, 1) := dk_4 (dk_at dksX0_cell_0 15 rfl rfl)
theorem dX0_cell_16 : decode cX0_cell 16 = .ok (.ireturn, 1) := dk_172 (dk_at dksX0_cell_0 16 rfl rfl)
theorem dX0_cell_17 : decode cX0_cell 17 = .ok (.astore 4, 2) := dk_58 4 (dk_at dksX0_cell_0 17 rfl rfl)
theorem dX0_cell_19 : decode cX0_cell 19 = .ok (.iconst 2, 1) := dk_5 (dk_at dksX0_cell_0 19 rfl rfl)
theorem dX0_cell_20 : decode cX0_cell 20 = .ok (.ireturn, 1) := dk_172 (dk_at dksX0_cell_0 20 rfl rfl)
theorem dX0_cell_21 : decode cX0_cell 21 = .ok (.iconst 0, 1) := dk_3 (dk_at dksX0_cell_0 21 rfl rfl)
theorem dX0_cell_22 : decode cX0_cell 22 = .ok (.ireturn, 1) := dk_172 (dk_at dksX0_cell_0 22 rfl rfl)
abbrev cX0_between : ByteArray := method_9_code
def yX0_between : MethodName := ⟨RX0, "between", "(LLakeLevels;IIZ[J)I"⟩
def dkwX0_between_0 : List UInt8 := [25, 4, 3, 42, 27, 28, 29, 182, 0, 34, 133, 80, 167, 0, 7, 58, 5, 4, 172, 3, 172]
abbrev dktX0_between_0 : List UInt8 := dkwX0_between_0 ++ []
theorem dksX0_between_0 : cX0_between.data.toList.drop 0 = dktX0_between_0 := by decide +kernel
theorem dX0_between_0 : decode cX0_between 0 = .ok (.aload 4, 2) := dk_25 4 (dk_at dksX0_between_0 0 rfl rfl)
theorem dX0_between_2 : decode cX0_between 2 = .ok (.iconst 0, 1) := dk_3 (dk_at dksX0_between_0 2 rfl rfl)
theorem dX0_between_3 : decode cX0_between 3 = .ok (.aload_n 0, 1) := dk_42 (dk_at dksX0_between_0 3 rfl rfl)
theorem dX0_between_4 : decode cX0_between 4 = .ok (.iload_n 1, 1) := dk_27 (dk_at dksX0_between_0 4 rfl rfl)
theorem dX0_between_5 : decode cX0_between 5 = .ok (.iload_n 2, 1) := dk_28 (dk_at dksX0_between_0 5 rfl rfl)
theorem dX0_between_6 : decode cX0_between 6 = .ok (.iload_n 3, 1) := dk_29 (dk_at dksX0_between_0 6 rfl rfl)
theorem dX0_between_7 : decode cX0_between 7 = .ok (.invokevirtual 34, 3) := dk_182 0 34 (dk_at dksX0_between_0 7 rfl rfl)
theorem dX0_between_10 : decode cX0_between 10 = .ok (.i2l, 1) := dk_133 (dk_at dksX0_between_0 10 rfl rfl)
theorem dX0_between_11 : decode cX0_between 11 = .ok (.lastore, 1) := dk_80 (dk_at dksX0_between_0 11 rfl rfl)
theorem dX0_between_12 : decode cX0_between 12 = .ok (.goto 7, 3) := dk_167 0 7 (dk_at dksX0_between_0 12 rfl rfl)
theorem dX0_between_15 : decode cX0_between 15 = .ok (.astore 5, 2) := dk_58 5 (dk_at dksX0_between_0 15 rfl rfl)
theorem dX0_between_17 : decode cX0_between 17 = .ok (.iconst 1, 1) := dk_4 (dk_at dksX0_between_0 17 rfl rfl)
theorem dX0_between_18 : decode cX0_between 18 = .ok (.ireturn, 1) := dk_172 (dk_at dksX0_between_0 18 rfl rfl)
theorem dX0_between_19 : decode cX0_between 19 = .ok (.iconst 0, 1) := dk_3 (dk_at dksX0_between_0 19 rfl rfl)
theorem dX0_between_20 : decode cX0_between 20 = .ok (.ireturn, 1) := dk_172 (dk_at dksX0_between_0 20 rfl rfl)
abbrev cX0_count : ByteArray := method_10_code
def yX0_count : MethodName := ⟨RX0, "count", "(LLakeLevels;I[J)I"⟩
def dkwX0_count_0 : List UInt8 := [44, 3, 42, 27, 182, 0, 38, 133, 80, 167, 0, 6, 78, 4, 172, 3, 172]
abbrev dktX0_count_0 : List UInt8 := dkwX0_count_0 ++ []
theorem dksX0_count_0 : cX0_count.data.toList.drop 0 = dktX0_count_0 := by decide +kernel
theorem dX0_count_0 : decode cX0_count 0 = .ok (.aload_n 2, 1) := dk_44 (dk_at dksX0_count_0 0 rfl rfl)
theorem dX0_count_1 : decode cX0_count 1 = .ok (.iconst 0, 1) := dk_3 (dk_at dksX0_count_0 1 rfl rfl)
theorem dX0_count_2 : decode cX0_count 2 = .ok (.aload_n 0, 1) := dk_42 (dk_at dksX0_count_0 2 rfl rfl)
theorem dX0_count_3 : decode cX0_count 3 = .ok (.iload_n 1, 1) := dk_27 (dk_at dksX0_count_0 3 rfl rfl)
theorem dX0_count_4 : decode cX0_count 4 = .ok (.invokevirtual 38, 3) := dk_182 0 38 (dk_at dksX0_count_0 4 rfl rfl)
theorem dX0_count_7 : decode cX0_count 7 = .ok (.i2l, 1) := dk_133 (dk_at dksX0_count_0 7 rfl rfl)
theorem dX0_count_8 : decode cX0_count 8 = .ok (.lastore, 1) := dk_80 (dk_at dksX0_count_0 8 rfl rfl)
theorem dX0_count_9 : decode cX0_count 9 = .ok (.goto 6, 3) := dk_167 0 6 (dk_at dksX0_count_0 9 rfl rfl)
theorem dX0_count_12 : decode cX0_count 12 = .ok (.astore_n 3, 1) := dk_78 (dk_at dksX0_count_0 12 rfl rfl)
theorem dX0_count_13 : decode cX0_count 13 = .ok (.iconst 1, 1) := dk_4 (dk_at dksX0_count_0 13 rfl rfl)
theorem dX0_count_14 : decode cX0_count 14 = .ok (.ireturn, 1) := dk_172 (dk_at dksX0_count_0 14 rfl rfl)
theorem dX0_count_15 : decode cX0_count 15 = .ok (.iconst 0, 1) := dk_3 (dk_at dksX0_count_0 15 rfl rfl)
theorem dX0_count_16 : decode cX0_count 16 = .ok (.ireturn, 1) := dk_172 (dk_at dksX0_count_0 16 rfl rfl)
abbrev cX0_pour : ByteArray := method_11_code
def yX0_pour : MethodName := ⟨RX0, "pour", "(LLakeLevels;II[J)I"⟩
def dkwX0_pour_1 : List UInt8 := [172, 3, 172]
abbrev dktX0_pour_1 : List UInt8 := dkwX0_pour_1 ++ []
def dkwX0_pour_0 : List UInt8 := [45, 3, 42, 27, 28, 182, 0, 42, 133, 80, 167, 0, 15, 58, 4, 4, 172, 58, 4, 5, 172, 58, 4, 6]
abbrev dktX0_pour_0 : List UInt8 := dkwX0_pour_0 ++ dktX0_pour_1
theorem dksX0_pour_0 : cX0_pour.data.toList.drop 0 = dktX0_pour_0 := by decide +kernel
theorem dksX0_pour_1 : cX0_pour.data.toList.drop 24 = dktX0_pour_1 := dk_seg dksX0_pour_0 24 rfl rfl
theorem dX0_pour_0 : decode cX0_pour 0 = .ok (.aload_n 3, 1) := dk_45 (dk_at dksX0_pour_0 0 rfl rfl)
theorem dX0_pour_1 : decode cX0_pour 1 = .ok (.iconst 0, 1) := dk_3 (dk_at dksX0_pour_0 1 rfl rfl)
theorem dX0_pour_2 : decode cX0_pour 2 = .ok (.aload_n 0, 1) := dk_42 (dk_at dksX0_pour_0 2 rfl rfl)
theorem dX0_pour_3 : decode cX0_pour 3 = .ok (.iload_n 1, 1) := dk_27 (dk_at dksX0_pour_0 3 rfl rfl)
theorem dX0_pour_4 : decode cX0_pour 4 = .ok (.iload_n 2, 1) := dk_28 (dk_at dksX0_pour_0 4 rfl rfl)
theorem dX0_pour_5 : decode cX0_pour 5 = .ok (.invokevirtual 42, 3) := dk_182 0 42 (dk_at dksX0_pour_0 5 rfl rfl)
theorem dX0_pour_8 : decode cX0_pour 8 = .ok (.i2l, 1) := dk_133 (dk_at dksX0_pour_0 8 rfl rfl)
theorem dX0_pour_9 : decode cX0_pour 9 = .ok (.lastore, 1) := dk_80 (dk_at dksX0_pour_0 9 rfl rfl)
theorem dX0_pour_10 : decode cX0_pour 10 = .ok (.goto 15, 3) := dk_167 0 15 (dk_at dksX0_pour_0 10 rfl rfl)
theorem dX0_pour_13 : decode cX0_pour 13 = .ok (.astore 4, 2) := dk_58 4 (dk_at dksX0_pour_0 13 rfl rfl)
theorem dX0_pour_15 : decode cX0_pour 15 = .ok (.iconst 1, 1) := dk_4 (dk_at dksX0_pour_0 15 rfl rfl)
theorem dX0_pour_16 : decode cX0_pour 16 = .ok (.ireturn, 1) := dk_172 (dk_at dksX0_pour_0 16 rfl rfl)
theorem dX0_pour_17 : decode cX0_pour 17 = .ok (.astore 4, 2) := dk_58 4 (dk_at dksX0_pour_0 17 rfl rfl)
theorem dX0_pour_19 : decode cX0_pour 19 = .ok (.iconst 2, 1) := dk_5 (dk_at dksX0_pour_0 19 rfl rfl)
theorem dX0_pour_20 : decode cX0_pour 20 = .ok (.ireturn, 1) := dk_172 (dk_at dksX0_pour_0 20 rfl rfl)
theorem dX0_pour_21 : decode cX0_pour 21 = .ok (.astore 4, 2) := dk_58 4 (dk_at dksX0_pour_0 21 rfl rfl)
theorem dX0_pour_23 : decode cX0_pour 23 = .ok (.iconst 3, 1) := dk_6 (dk_at dksX0_pour_0 23 rfl rfl)
theorem dX0_pour_24 : decode cX0_pour 24 = .ok (.ireturn, 1) := dk_172 (dk_at dksX0_pour_1 0 rfl rfl)
theorem dX0_pour_25 : decode cX0_pour 25 = .ok (.iconst 0, 1) := dk_3 (dk_at dksX0_pour_1 1 rfl rfl)
theorem dX0_pour_26 : decode cX0_pour 26 = .ok (.ireturn, 1) := dk_172 (dk_at dksX0_pour_1 2 rfl rfl)
abbrev cX0_rain : ByteArray := method_12_code
def yX0_rain : MethodName := ⟨RX0, "rain", "(LLakeLevels;I[J)I"⟩
def dkwX0_rain_0 : List UInt8 := [44, 3, 42, 27, 182, 0, 47, 133, 80, 167, 0, 9, 78, 4, 172, 78, 5, 172, 3, 172]
abbrev dktX0_rain_0 : List UInt8 := dkwX0_rain_0 ++ []
theorem dksX0_rain_0 : cX0_rain.data.toList.drop 0 = dktX0_rain_0 := by decide +kernel
theorem dX0_rain_0 : decode cX0_rain 0 = .ok (.aload_n 2, 1) := dk_44 (dk_at dksX0_rain_0 0 rfl rfl)
theorem dX0_rain_1 : decode cX0_rain 1 = .ok (.iconst 0, 1) := dk_3 (dk_at dksX0_rain_0 1 rfl rfl)
theorem dX0_rain_2 : decode cX0_rain 2 = .ok (.aload_n 0, 1) := dk_42 (dk_at dksX0_rain_0 2 rfl rfl)
theorem dX0_rain_3 : decode cX0_rain 3 = .ok (.iload_n 1, 1) := dk_27 (dk_at dksX0_rain_0 3 rfl rfl)
theorem dX0_rain_4 : decode cX0_rain 4 = .ok (.invokevirtual 47, 3) := dk_182 0 47 (dk_at dksX0_rain_0 4 rfl rfl)
theorem dX0_rain_7 : decode cX0_rain 7 = .ok (.i2l, 1) := dk_133 (dk_at dksX0_rain_0 7 rfl rfl)
theorem dX0_rain_8 : decode cX0_rain 8 = .ok (.lastore, 1) := dk_80 (dk_at dksX0_rain_0 8 rfl rfl)
theorem dX0_rain_9 : decode cX0_rain 9 = .ok (.goto 9, 3) := dk_167 0 9 (dk_at dksX0_rain_0 9 rfl rfl)
theorem dX0_rain_12 : decode cX0_rain 12 = .ok (.astore_n 3, 1) := dk_78 (dk_at dksX0_rain_0 12 rfl rfl)
theorem dX0_rain_13 : decode cX0_rain 13 = .ok (.iconst 1, 1) := dk_4 (dk_at dksX0_rain_0 13 rfl rfl)
theorem dX0_rain_14 : decode cX0_rain 14 = .ok (.ireturn, 1) := dk_172 (dk_at dksX0_rain_0 14 rfl rfl)
theorem dX0_rain_15 : decode cX0_rain 15 = .ok (.astore_n 3, 1) := dk_78 (dk_at dksX0_rain_0 15 rfl rfl)
theorem dX0_rain_16 : decode cX0_rain 16 = .ok (.iconst 2, 1) := dk_5 (dk_at dksX0_rain_0 16 rfl rfl)
theorem dX0_rain_17 : decode cX0_rain 17 = .ok (.ireturn, 1) := dk_172 (dk_at dksX0_rain_0 17 rfl rfl)
theorem dX0_rain_18 : decode cX0_rain 18 = .ok (.iconst 0, 1) := dk_3 (dk_at dksX0_rain_0 18 rfl rfl)
theorem dX0_rain_19 : decode cX0_rain 19 = .ok (.ireturn, 1) := dk_172 (dk_at dksX0_rain_0 19 rfl rfl)
abbrev cX0_evaporate : ByteArray := method_13_code
def yX0_evaporate : MethodName := ⟨RX0, "evaporate", "(LLakeLevels;I[J)I"⟩
def dkwX0_evaporate_0 : List UInt8 := [44, 3, 42, 27, 182, 0, 50, 133, 80, 167, 0, 6, 78, 4, 172, 3, 172]
abbrev dktX0_evaporate_0 : List UInt8 := dkwX0_evaporate_0 ++ []
theorem dksX0_evaporate_0 : cX0_evaporate.data.toList.drop 0 = dktX0_evaporate_0 := by decide +kernel
theorem dX0_evaporate_0 : decode cX0_evaporate 0 = .ok (.aload_n 2, 1) := dk_44 (dk_at dksX0_evaporate_0 0 rfl rfl)
theorem dX0_evaporate_1 : decode cX0_evaporate 1 = .ok (.iconst 0, 1) := dk_3 (dk_at dksX0_evaporate_0 1 rfl rfl)
theorem dX0_evaporate_2 : decode cX0_evaporate 2 = .ok (.aload_n 0, 1) := dk_42 (dk_at dksX0_evaporate_0 2 rfl rfl)
theorem dX0_evaporate_3 : decode cX0_evaporate 3 = .ok (.iload_n 1, 1) := dk_27 (dk_at dksX0_evaporate_0 3 rfl rfl)
theorem dX0_evaporate_4 : decode cX0_evaporate 4 = .ok (.invokevirtual 50, 3) := dk_182 0 50 (dk_at dksX0_evaporate_0 4 rfl rfl)
theorem dX0_evaporate_7 : decode cX0_evaporate 7 = .ok (.i2l, 1) := dk_133 (dk_at dksX0_evaporate_0 7 rfl rfl)
theorem dX0_evaporate_8 : decode cX0_evaporate 8 = .ok (.lastore, 1) := dk_80 (dk_at dksX0_evaporate_0 8 rfl rfl)
theorem dX0_evaporate_9 : decode cX0_evaporate 9 = .ok (.goto 6, 3) := dk_167 0 6 (dk_at dksX0_evaporate_0 9 rfl rfl)
theorem dX0_evaporate_12 : decode cX0_evaporate 12 = .ok (.astore_n 3, 1) := dk_78 (dk_at dksX0_evaporate_0 12 rfl rfl)
theorem dX0_evaporate_13 : decode cX0_evaporate 13 = .ok (.iconst 1, 1) := dk_4 (dk_at dksX0_evaporate_0 13 rfl rfl)
theorem dX0_evaporate_14 : decode cX0_evaporate 14 = .ok (.ireturn, 1) := dk_172 (dk_at dksX0_evaporate_0 14 rfl rfl)
theorem dX0_evaporate_15 : decode cX0_evaporate 15 = .ok (.iconst 0, 1) := dk_3 (dk_at dksX0_evaporate_0 15 rfl rfl)
theorem dX0_evaporate_16 : decode cX0_evaporate 16 = .ok (.ireturn, 1) := dk_172 (dk_at dksX0_evaporate_0 16 rfl rfl)
abbrev cX0_take : ByteArray := method_14_code
def yX0_take : MethodName := ⟨RX0, "take", "(LLakeLevels;II[J)I"⟩
def dkwX0_take_0 : List UInt8 := [45, 3, 42, 27, 28, 182, 0, 53, 133, 80, 167, 0, 11, 58, 4, 4, 172, 58, 4, 5, 172, 3, 172]
abbrev dktX0_take_0 : List UInt8 := dkwX0_take_0 ++ []
theorem dksX0_take_0 : cX0_take.data.toList.drop 0 = dktX0_take_0 := by decide +kernel
theorem dX0_take_0 : decode cX0_take 0 = .ok (.aload_n 3, 1) := dk_45 (dk_at dksX0_take_0 0 rfl rfl)
theorem dX0_take_1 : decode cX0_take 1 = .ok (.iconst 0, 1) := dk_3 (dk_at dksX0_take_0 1 rfl rfl)
theorem dX0_take_2 : decode cX0_take 2 = .ok (.aload_n 0, 1) := dk_42 (dk_at dksX0_take_0 2 rfl rfl)
theorem dX0_take_3 : decode cX0_take 3 = .ok (.iload_n 1, 1) := dk_27 (dk_at dksX0_take_0 3 rfl rfl)
theorem dX0_take_4 : decode cX0_take 4 = .ok (.iload_n 2, 1) := dk_28 (dk_at dksX0_take_0 4 rfl rfl)
theorem dX0_take_5 : decode cX0_take 5 = .ok (.invokevirtual 53, 3) := dk_182 0 53 (dk_at dksX0_take_0 5 rfl rfl)
theorem dX0_take_8 : decode cX0_take 8 = .ok (.i2l, 1) := dk_133 (dk_at dksX0_take_0 8 rfl rfl)
theorem dX0_take_9 : decode cX0_take 9 = .ok (.lastore, 1) := dk_80 (dk_at dksX0_take_0 9 rfl rfl)
theorem dX0_take_10 : decode cX0_take 10 = .ok (.goto 11, 3) := dk_167 0 11 (dk_at dksX0_take_0 10 rfl rfl)
theorem dX0_take_13 : decode cX0_take 13 = .ok (.astore 4, 2) := dk_58 4 (dk_at dksX0_take_0 13 rfl rfl)
theorem dX0_take_15 : decode cX0_take 15 = .ok (.iconst 1, 1) := dk_4 (dk_at dksX0_take_0 15 rfl rfl)
theorem dX0_take_16 : decode cX0_take 16 = .ok (.ireturn, 1) := dk_172 (dk_at dksX0_take_0 16 rfl rfl)
theorem dX0_take_17 : decode cX0_take 17 = .ok (.astore 4, 2) := dk_58 4 (dk_at dksX0_take_0 17 rfl rfl)
theorem dX0_take_19 : decode cX0_take 19 = .ok (.iconst 2, 1) := dk_5 (dk_at dksX0_take_0 19 rfl rfl)
theorem dX0_take_20 : decode cX0_take 20 = .ok (.ireturn, 1) := dk_172 (dk_at dksX0_take_0 20 rfl rfl)
theorem dX0_take_21 : decode cX0_take 21 = .ok (.iconst 0, 1) := dk_3 (dk_at dksX0_take_0 21 rfl rfl)
theorem dX0_take_22 : decode cX0_take 22 = .ok (.ireturn, 1) := dk_172 (dk_at dksX0_take_0 22 rfl rfl)
abbrev cX0_balance : ByteArray := method_15_code
def yX0_balance : MethodName := ⟨RX0, "balance", "(LLakeLevels;I[J)I"⟩
def dkwX0_balance_0 : List UInt8 := [44, 3, 42, 27, 182, 0, 56, 80, 167, 0, 6, 78, 4, 172, 3, 172]
abbrev dktX0_balance_0 : List UInt8 := dkwX0_balance_0 ++ []
theorem dksX0_balance_0 : cX0_balance.data.toList.drop 0 = dktX0_balance_0 := by decide +kernel
theorem dX0_balance_0 : decode cX0_balance 0 = .ok (.aload_n 2, 1) := dk_44 (dk_at dksX0_balance_0 0 rfl rfl)
theorem dX0_balance_1 : decode cX0_balance 1 = .ok (.iconst 0, 1) := dk_3 (dk_at dksX0_balance_0 1 rfl rfl)
theorem dX0_balance_2 : decode cX0_balance 2 = .ok (.aload_n 0, 1) := dk_42 (dk_at dksX0_balance_0 2 rfl rfl)
theorem dX0_balance_3 : decode cX0_balance 3 = .ok (.iload_n 1, 1) := dk_27 (dk_at dksX0_balance_0 3 rfl rfl)
theorem dX0_balance_4 : decode cX0_balance 4 = .ok (.invokevirtual 56, 3) := dk_182 0 56 (dk_at dksX0_balance_0 4 rfl rfl)
theorem dX0_balance_7 : decode cX0_balance 7 = .ok (.lastore, 1) := dk_80 (dk_at dksX0_balance_0 7 rfl rfl)
theorem dX0_balance_8 : decode cX0_balance 8 = .ok (.goto 6, 3) := dk_167 0 6 (dk_at dksX0_balance_0 8 rfl rfl)
theorem dX0_balance_11 : decode cX0_balance 11 = .ok (.astore_n 3, 1) := dk_78 (dk_at dksX0_balance_0 11 rfl rfl)
theorem dX0_balance_12 : decode cX0_balance 12 = .ok (.iconst 1, 1) := dk_4 (dk_at dksX0_balance_0 12 rfl rfl)
theorem dX0_balance_13 : decode cX0_balance 13 = .ok (.ireturn, 1) := dk_172 (dk_at dksX0_balance_0 13 rfl rfl)
theorem dX0_balance_14 : decode cX0_balance 14 = .ok (.iconst 0, 1) := dk_3 (dk_at dksX0_balance_0 14 rfl rfl)
theorem dX0_balance_15 : decode cX0_balance 15 = .ok (.ireturn, 1) := dk_172 (dk_at dksX0_balance_0 15 rfl rfl)
abbrev cX0_lake : ByteArray := method_16_code
def yX0_lake : MethodName := ⟨RX0, "lake", "(LLakeLevels;II[J)I"⟩
def dkwX0_lake_0 : List UInt8 := [45, 3, 42, 27, 28, 182, 0, 60, 133, 80, 167, 0, 11, 58, 4, 4, 172, 58, 4, 5, 172, 3, 172]
abbrev dktX0_lake_0 : List UInt8 := dkwX0_lake_0 ++ []
theorem dksX0_lake_0 : cX0_lake.data.toList.drop 0 = dktX0_lake_0 := by decide +kernel
theorem dX0_lake_0 : decode cX0_lake 0 = .ok (.aload_n 3, 1) := dk_45 (dk_at dksX0_lake_0 0 rfl rfl)
theorem dX0_lake_1 : decode cX0_lake 1 = .ok (.iconst 0, 1) := dk_3 (dk_at dksX0_lake_0 1 rfl rfl)
theorem dX0_lake_2 : decode cX0_lake 2 = .ok (.aload_n 0, 1) := dk_42 (dk_at dksX0_lake_0 2 rfl rfl)
theorem dX0_lake_3 : decode cX0_lake 3 = .ok (.iload_n 1, 1) := dk_27 (dk_at dksX0_lake_0 3 rfl rfl)
theorem dX0_lake_4 : decode cX0_lake 4 = .ok (.iload_n 2, 1) := dk_28 (dk_at dksX0_lake_0 4 rfl rfl)
theorem dX0_lake_5 : decode cX0_lake 5 = .ok (.invokevirtual 60, 3) := dk_182 0 60 (dk_at dksX0_lake_0 5 rfl rfl)
theorem dX0_lake_8 : decode cX0_lake 8 = .ok (.i2l, 1) := dk_133 (dk_at dksX0_lake_0 8 rfl rfl)
theorem dX0_lake_9 : decode cX0_lake 9 = .ok (.lastore, 1) := dk_80 (dk_at dksX0_lake_0 9 rfl rfl)
theorem dX0_lake_10 : decode cX0_lake 10 = .ok (.goto 11, 3) := dk_167 0 11 (dk_at dksX0_lake_0 10 rfl rfl)
theorem dX0_lake_13 : decode cX0_lake 13 = .ok (.astore 4, 2) := dk_58 4 (dk_at dksX0_lake_0 13 rfl rfl)
theorem dX0_lake_15 : decode cX0_lake 15 = .ok (.iconst 1, 1) := dk_4 (dk_at dksX0_lake_0 15 rfl rfl)
theorem dX0_lake_16 : decode cX0_lake 16 = .ok (.ireturn, 1) := dk_172 (dk_at dksX0_lake_0 16 rfl rfl)
theorem dX0_lake_17 : decode cX0_lake 17 = .ok (.astore 4, 2) := dk_58 4 (dk_at dksX0_lake_0 17 rfl rfl)
theorem dX0_lake_19 : decode cX0_lake 19 = .ok (.iconst 2, 1) := dk_5 (dk_at dksX0_lake_0 19 rfl rfl)
theorem dX0_lake_20 : decode cX0_lake 20 = .ok (.ireturn, 1) := dk_172 (dk_at dksX0_lake_0 20 rfl rfl)
theorem dX0_lake_21 : decode cX0_lake 21 = .ok (.iconst 0, 1) := dk_3 (dk_at dksX0_lake_0 21 rfl rfl)
theorem dX0_lake_22 : decode cX0_lake 22 = .ok (.ireturn, 1) := dk_172 (dk_at dksX0_lake_0 22 rfl rfl)
abbrev cX0_lakeCells : ByteArray := method_17_code
def yX0_lakeCells : MethodName := ⟨RX0, "lakeCells", "(LLakeLevels;I[J)I"⟩
def dkwX0_lakeCells_0 : List UInt8 := [44, 3, 42, 27, 182, 0, 63, 80, 167, 0, 6, 78, 4, 172, 3, 172]
abbrev dktX0_lakeCells_0 : List UInt8 := dkwX0_lakeCells_0 ++ []
theorem dksX0_lakeCells_0 : cX0_lakeCells.data.toList.drop 0 = dktX0_lakeCells_0 := by decide +kernel
theorem dX0_lakeCells_0 : decode cX0_lakeCells 0 = .ok (.aload_n 2, 1) := dk_44 (dk_at dksX0_lakeCells_0 0 rfl rfl)
theorem dX0_lakeCells_1 : decode cX0_lakeCells 1 = .ok (.iconst 0, 1) := dk_3 (dk_at dksX0_lakeCells_0 1 rfl rfl)
theorem dX0_lakeCells_2 : decode cX0_lakeCells 2 = .ok (.aload_n 0, 1) := dk_42 (dk_at dksX0_lakeCells_0 2 rfl rfl)
theorem dX0_lakeCells_3 : decode cX0_lakeCells 3 = .ok (.iload_n 1, 1) := dk_27 (dk_at dksX0_lakeCells_0 3 rfl rfl)
theorem dX0_lakeCells_4 : decode cX0_lakeCells 4 = .ok (.invokevirtual 63, 3) := dk_182 0 63 (dk_at dksX0_lakeCells_0 4 rfl rfl)
theorem dX0_lakeCells_7 : decode cX0_lakeCells 7 = .ok (.lastore, 1) := dk_80 (dk_at dksX0_lakeCells_0 7 rfl rfl)
theorem dX0_lakeCells_8 : decode cX0_lakeCells 8 = .ok (.goto 6, 3) := dk_167 0 6 (dk_at dksX0_lakeCells_0 8 rfl rfl)
theorem dX0_lakeCells_11 : decode cX0_lakeCells 11 = .ok (.astore_n 3, 1) := dk_78 (dk_at dksX0_lakeCells_0 11 rfl rfl)
theorem dX0_lakeCells_12 : decode cX0_lakeCells 12 = .ok (.iconst 1, 1) := dk_4 (dk_at dksX0_lakeCells_0 12 rfl rfl)
theorem dX0_lakeCells_13 : decode cX0_lakeCells 13 = .ok (.ireturn, 1) := dk_172 (dk_at dksX0_lakeCells_0 13 rfl rfl)
theorem dX0_lakeCells_14 : decode cX0_lakeCells 14 = .ok (.iconst 0, 1) := dk_3 (dk_at dksX0_lakeCells_0 14 rfl rfl)
theorem dX0_lakeCells_15 : decode cX0_lakeCells 15 = .ok (.ireturn, 1) := dk_172 (dk_at dksX0_lakeCells_0 15 rfl rfl)
abbrev cX0_level : ByteArray := method_18_code
def yX0_level : MethodName := ⟨RX0, "level", "(LLakeLevels;II[J)I"⟩
def dkwX0_level_0 : List UInt8 := [45, 3, 42, 27, 28, 182, 0, 66, 133, 80, 167, 0, 11, 58, 4, 4, 172, 58, 4, 5, 172, 3, 172]
abbrev dktX0_level_0 : List UInt8 := dkwX0_level_0 ++ []
theorem dksX0_level_0 : cX0_level.data.toList.drop 0 = dktX0_level_0 := by decide +kernel
theorem dX0_level_0 : decode cX0_level 0 = .ok (.aload_n 3, 1) := dk_45 (dk_at dksX0_level_0 0 rfl rfl)
theorem dX0_level_1 : decode cX0_level 1 = .ok (.iconst 0, 1) := dk_3 (dk_at dksX0_level_0 1 rfl rfl)
theorem dX0_level_2 : decode cX0_level 2 = .ok (.aload_n 0, 1) := dk_42 (dk_at dksX0_level_0 2 rfl rfl)
theorem dX0_level_3 : decode cX0_level 3 = .ok (.iload_n 1, 1) := dk_27 (dk_at dksX0_level_0 3 rfl rfl)
theorem dX0_level_4 : decode cX0_level 4 = .ok (.iload_n 2, 1) := dk_28 (dk_at dksX0_level_0 4 rfl rfl)
theorem dX0_level_5 : decode cX0_level 5 = .ok (.invokevirtual 66, 3) := dk_182 0 66 (dk_at dksX0_level_0 5 rfl rfl)
theorem dX0_level_8 : decode cX0_level 8 = .ok (.i2l, 1) := dk_133 (dk_at dksX0_level_0 8 rfl rfl)
theorem dX0_level_9 : decode cX0_level 9 = .ok (.lastore, 1) := dk_80 (dk_at dksX0_level_0 9 rfl rfl)
theorem dX0_level_10 : decode cX0_level 10 = .ok (.goto 11, 3) := dk_167 0 11 (dk_at dksX0_level_0 10 rfl rfl)
theorem dX0_level_13 : decode cX0_level 13 = .ok (.astore 4, 2) := dk_58 4 (dk_at dksX0_level_0 13 rfl rfl)
theorem dX0_level_15 : decode cX0_level 15 = .ok (.iconst 1, 1) := dk_4 (dk_at dksX0_level_0 15 rfl rfl)
theorem dX0_level_16 : decode cX0_level 16 = .ok (.ireturn, 1) := dk_172 (dk_at dksX0_level_0 16 rfl rfl)
theorem dX0_level_17 : decode cX0_level 17 = .ok (.astore 4, 2) := dk_58 4 (dk_at dksX0_level_0 17 rfl rfl)
theorem dX0_level_19 : decode cX0_level 19 = .ok (.iconst 2, 1) := dk_5 (dk_at dksX0_level_0 19 rfl rfl)
theorem dX0_level_20 : decode cX0_level 20 = .ok (.ireturn, 1) := dk_172 (dk_at dksX0_level_0 20 rfl rfl)
theorem dX0_level_21 : decode cX0_level 21 = .ok (.iconst 0, 1) := dk_3 (dk_at dksX0_level_0 21 rfl rfl)
theorem dX0_level_22 : decode cX0_level 22 = .ok (.ireturn, 1) := dk_172 (dk_at dksX0_level_0 22 rfl rfl)
abbrev cX0_depth : ByteArray := method_19_code
def yX0_depth : MethodName := ⟨RX0, "depth", "(LLakeLevels;I[D)I"⟩
def dkwX0_depth_0 : List UInt8 := [44, 3, 42, 27, 182, 0, 69, 82, 167, 0, 6, 78, 4, 172, 3, 172]
abbrev dktX0_depth_0 : List UInt8 := dkwX0_depth_0 ++ []
theorem dksX0_depth_0 : cX0_depth.data.toList.drop 0 = dktX0_depth_0 := by decide +kernel
theorem dX0_depth_0 : decode cX0_depth 0 = .ok (.aload_n 2, 1) := dk_44 (dk_at dksX0_depth_0 0 rfl rfl)
theorem dX0_depth_1 : decode cX0_depth 1 = .ok (.iconst 0, 1) := dk_3 (dk_at dksX0_depth_0 1 rfl rfl)
theorem dX0_depth_2 : decode cX0_depth 2 = .ok (.aload_n 0, 1) := dk_42 (dk_at dksX0_depth_0 2 rfl rfl)
theorem dX0_depth_3 : decode cX0_depth 3 = .ok (.iload_n 1, 1) := dk_27 (dk_at dksX0_depth_0 3 rfl rfl)
theorem dX0_depth_4 : decode cX0_depth 4 = .ok (.invokevirtual 69, 3) := dk_182 0 69 (dk_at dksX0_depth_0 4 rfl rfl)
theorem dX0_depth_7 : decode cX0_depth 7 = .ok (.dastore, 1) := dk_82 (dk_at dksX0_depth_0 7 rfl rfl)
theorem dX0_depth_8 : decode cX0_depth 8 = .ok (.goto 6, 3) := dk_167 0 6 (dk_at dksX0_depth_0 8 rfl rfl)
theorem dX0_depth_11 : decode cX0_depth 11 = .ok (.astore_n 3, 1) := dk_78 (dk_at dksX0_depth_0 11 rfl rfl)
theorem dX0_depth_12 : decode cX0_depth 12 = .ok (.iconst 1, 1) := dk_4 (dk_at dksX0_depth_0 12 rfl rfl)
theorem dX0_depth_13 : decode cX0_depth 13 = .ok (.ireturn, 1) := dk_172 (dk_at dksX0_depth_0 13 rfl rfl)
theorem dX0_depth_14 : decode cX0_depth 14 = .ok (.iconst 0, 1) := dk_3 (dk_at dksX0_depth_0 14 rfl rfl)
theorem dX0_depth_15 : decode cX0_depth 15 = .ok (.ireturn, 1) := dk_172 (dk_at dksX0_depth_0 15 rfl rfl)
abbrev cX0_course : ByteArray := method_20_code
def yX0_course : MethodName := ⟨RX0, "course", "(LLakeLevels;I[J)I"⟩
def dkwX0_course_0 : List UInt8 := [44, 3, 42, 27, 182, 0, 73, 80, 167, 0, 6, 78, 4, 172, 3, 172]
abbrev dktX0_course_0 : List UInt8 := dkwX0_course_0 ++ []
theorem dksX0_course_0 : cX0_course.data.toList.drop 0 = dktX0_course_0 := by decide +kernel
theorem dX0_course_0 : decode cX0_course 0 = .ok (.aload_n 2, 1) := dk_44 (dk_at dksX0_course_0 0 rfl rfl)
theorem dX0_course_1 : decode cX0_course 1 = .ok (.iconst 0, 1) := dk_3 (dk_at dksX0_course_0 1 rfl rfl)
theorem dX0_course_2 : decode cX0_course 2 = .ok (.aload_n 0, 1) := dk_42 (dk_at dksX0_course_0 2 rfl rfl)
theorem dX0_course_3 : decode cX0_course 3 = .ok (.iload_n 1, 1) := dk_27 (dk_at dksX0_course_0 3 rfl rfl)
theorem dX0_course_4 : decode cX0_course 4 = .ok (.invokevirtual 73, 3) := dk_182 0 73 (dk_at dksX0_course_0 4 rfl rfl)
theorem dX0_course_7 : decode cX0_course 7 = .ok (.lastore, 1) := dk_80 (dk_at dksX0_course_0 7 rfl rfl)
theorem dX0_course_8 : decode cX0_course 8 = .ok (.goto 6, 3) := dk_167 0 6 (dk_at dksX0_course_0 8 rfl rfl)
theorem dX0_course_11 : decode cX0_course 11 = .ok (.astore_n 3, 1) := dk_78 (dk_at dksX0_course_0 11 rfl rfl)
theorem dX0_course_12 : decode cX0_course 12 = .ok (.iconst 1, 1) := dk_4 (dk_at dksX0_course_0 12 rfl rfl)
theorem dX0_course_13 : decode cX0_course 13 = .ok (.ireturn, 1) := dk_172 (dk_at dksX0_course_0 13 rfl rfl)
theorem dX0_course_14 : decode cX0_course 14 = .ok (.iconst 0, 1) := dk_3 (dk_at dksX0_course_0 14 rfl rfl)
theorem dX0_course_15 : decode cX0_course 15 = .ok (.ireturn, 1) := dk_172 (dk_at dksX0_course_0 15 rfl rfl)
abbrev cX0_amountFor : ByteArray := method_21_code
def yX0_amountFor : MethodName := ⟨RX0, "amountFor", "(LLakeLevels;II[J)I"⟩
def dkwX0_amountFor_0 : List UInt8 := [45, 3, 42, 27, 28, 182, 0, 76, 133, 80, 167, 0, 7, 58, 4, 4, 172, 3, 172]
abbrev dktX0_amountFor_0 : List UInt8 := dkwX0_amountFor_0 ++ []
theorem dksX0_amountFor_0 : cX0_amountFor.data.toList.drop 0 = dktX0_amountFor_0 := by decide +kernel
theorem dX0_amountFor_0 : decode cX0_amountFor 0 = .ok (.aload_n 3, 1) := dk_45 (dk_at dksX0_amountFor_0 0 rfl rfl)
theorem dX0_amountFor_1 : decode cX0_amountFor 1 = .ok (.iconst 0, 1) := dk_3 (dk_at dksX0_amountFor_0 1 rfl rfl)
theorem dX0_amountFor_2 : decode cX0_amountFor 2 = .ok (.aload_n 0, 1) := dk_42 (dk_at dksX0_amountFor_0 2 rfl rfl)
theorem dX0_amountFor_3 : decode cX0_amountFor 3 = .ok (.iload_n 1, 1) := dk_27 (dk_at dksX0_amountFor_0 3 rfl rfl)
theorem dX0_amountFor_4 : decode cX0_amountFor 4 = .ok (.iload_n 2, 1) := dk_28 (dk_at dksX0_amountFor_0 4 rfl rfl)
theorem dX0_amountFor_5 : decode cX0_amountFor 5 = .ok (.invokevirtual 76, 3) := dk_182 0 76 (dk_at dksX0_amountFor_0 5 rfl rfl)
theorem dX0_amountFor_8 : decode cX0_amountFor 8 = .ok (.i2l, 1) := dk_133 (dk_at dksX0_amountFor_0 8 rfl rfl)
theorem dX0_amountFor_9 : decode cX0_amountFor 9 = .ok (.lastore, 1) := dk_80 (dk_at dksX0_amountFor_0 9 rfl rfl)
theorem dX0_amountFor_10 : decode cX0_amountFor 10 = .ok (.goto 7, 3) := dk_167 0 7 (dk_at dksX0_amountFor_0 10 rfl rfl)
theorem dX0_amountFor_13 : decode cX0_amountFor 13 = .ok (.astore 4, 2) := dk_58 4 (dk_at dksX0_amountFor_0 13 rfl rfl)
theorem dX0_amountFor_15 : decode cX0_amountFor 15 = .ok (.iconst 1, 1) := dk_4 (dk_at dksX0_amountFor_0 15 rfl rfl)
theorem dX0_amountFor_16 : decode cX0_amountFor 16 = .ok (.ireturn, 1) := dk_172 (dk_at dksX0_amountFor_0 16 rfl rfl)
theorem dX0_amountFor_17 : decode cX0_amountFor 17 = .ok (.iconst 0, 1) := dk_3 (dk_at dksX0_amountFor_0 17 rfl rfl)
theorem dX0_amountFor_18 : decode cX0_amountFor 18 = .ok (.ireturn, 1) := dk_172 (dk_at dksX0_amountFor_0 18 rfl rfl)
abbrev cX0_withoutGate : ByteArray := method_22_code
def yX0_withoutGate : MethodName := ⟨RX0, "withoutGate", "(LLakeLevels;II[J)I"⟩
def dkwX0_withoutGate_0 : List UInt8 := [45, 3, 42, 27, 28, 182, 0, 79, 133, 80, 167, 0, 7, 58, 4, 4, 172, 3, 172]
abbrev dktX0_withoutGate_0 : List UInt8 := dkwX0_withoutGate_0 ++ []
theorem dksX0_withoutGate_0 : cX0_withoutGate.data.toList.drop 0 = dktX0_withoutGate_0 := by decide +kernel
theorem dX0_withoutGate_0 : decode cX0_withoutGate 0 = .ok (.aload_n 3, 1) := dk_45 (dk_at dksX0_withoutGate_0 0 rfl rfl)
theorem dX0_withoutGate_1 : decode cX0_withoutGate 1 = .ok (.iconst 0, 1) := dk_3 (dk_at dksX0_withoutGate_0 1 rfl rfl)
theorem dX0_withoutGate_2 : decode cX0_withoutGate 2 = .ok (.aload_n 0, 1) := dk_42 (dk_at dksX0_withoutGate_0 2 rfl rfl)
theorem dX0_withoutGate_3 : decode cX0_withoutGate 3 = .ok (.iload_n 1, 1) := dk_27 (dk_at dksX0_withoutGate_0 3 rfl rfl)
theorem dX0_withoutGate_4 : decode cX0_withoutGate 4 = .ok (.iload_n 2, 1) := dk_28 (dk_at dksX0_withoutGate_0 4 rfl rfl)
theorem dX0_withoutGate_5 : decode cX0_withoutGate 5 = .ok (.invokevirtual 79, 3) := dk_182 0 79 (dk_at dksX0_withoutGate_0 5 rfl rfl)
theorem dX0_withoutGate_8 : decode cX0_withoutGate 8 = .ok (.i2l, 1) := dk_133 (dk_at dksX0_withoutGate_0 8 rfl rfl)
theorem dX0_withoutGate_9 : decode cX0_withoutGate 9 = .ok (.lastore, 1) := dk_80 (dk_at dksX0_withoutGate_0 9 rfl rfl)
theorem dX0_withoutGate_10 : decode cX0_withoutGate 10 = .ok (.goto 7, 3) := dk_167 0 7 (dk_at dksX0_withoutGate_0 10 rfl rfl)
theorem dX0_withoutGate_13 : decode cX0_withoutGate 13 = .ok (.astore 4, 2) := dk_58 4 (dk_at dksX0_withoutGate_0 13 rfl rfl)
theorem dX0_withoutGate_15 : decode cX0_withoutGate 15 = .ok (.iconst 1, 1) := dk_4 (dk_at dksX0_withoutGate_0 15 rfl rfl)
theorem dX0_withoutGate_16 : decode cX0_withoutGate 16 = .ok (.ireturn, 1) := dk_172 (dk_at dksX0_withoutGate_0 16 rfl rfl)
theorem dX0_withoutGate_17 : decode cX0_withoutGate 17 = .ok (.iconst 0, 1) := dk_3 (dk_at dksX0_withoutGate_0 17 rfl rfl)
theorem dX0_withoutGate_18 : decode cX0_withoutGate 18 = .ok (.ireturn, 1) := dk_172 (dk_at dksX0_withoutGate_0 18 rfl rfl)
abbrev cX0_append : ByteArray := method_23_code
def yX0_append : MethodName := ⟨RX0, "append", "(LLakeLevels;I[J)I"⟩
def dkwX0_append_0 : List UInt8 := [44, 3, 42, 27, 182, 0, 82, 133, 80, 167, 0, 9, 78, 4, 172, 78, 5, 172, 3, 172]
abbrev dktX0_append_0 : List UInt8 := dkwX0_append_0 ++ []
theorem dksX0_append_0 : cX0_append.data.toList.drop 0 = dktX0_append_0 := by decide +kernel
theorem dX0_append_0 : decode cX0_append 0 = .ok (.aload_n 2, 1) := dk_44 (dk_at dksX0_append_0 0 rfl rfl)
theorem dX0_append_1 : decode cX0_append 1 = .ok (.iconst 0, 1) := dk_3 (dk_at dksX0_append_0 1 rfl rfl)
theorem dX0_append_2 : decode cX0_append 2 = .ok (.aload_n 0, 1) := dk_42 (dk_at dksX0_append_0 2 rfl rfl)
theorem dX0_append_3 : decode cX0_append 3 = .ok (.iload_n 1, 1) := dk_27 (dk_at dksX0_append_0 3 rfl rfl)
theorem dX0_append_4 : decode cX0_append 4 = .ok (.invokevirtual 82, 3) := dk_182 0 82 (dk_at dksX0_append_0 4 rfl rfl)
theorem dX0_append_7 : decode cX0_append 7 = .ok (.i2l, 1) := dk_133 (dk_at dksX0_append_0 7 rfl rfl)
theorem dX0_append_8 : decode cX0_append 8 = .ok (.lastore, 1) := dk_80 (dk_at dksX0_append_0 8 rfl rfl)
theorem dX0_append_9 : decode cX0_append 9 = .ok (.goto 9, 3) := dk_167 0 9 (dk_at dksX0_append_0 9 rfl rfl)
theorem dX0_append_12 : decode cX0_append 12 = .ok (.astore_n 3, 1) := dk_78 (dk_at dksX0_append_0 12 rfl rfl)
theorem dX0_append_13 : decode cX0_append 13 = .ok (.iconst 1, 1) := dk_4 (dk_at dksX0_append_0 13 rfl rfl)
theorem dX0_append_14 : decode cX0_append 14 = .ok (.ireturn, 1) := dk_172 (dk_at dksX0_append_0 14 rfl rfl)
theorem dX0_append_15 : decode cX0_append 15 = .ok (.astore_n 3, 1) := dk_78 (dk_at dksX0_append_0 15 rfl rfl)
theorem dX0_append_16 : decode cX0_append 16 = .ok (.iconst 2, 1) := dk_5 (dk_at dksX0_append_0 16 rfl rfl)
theorem dX0_append_17 : decode cX0_append 17 = .ok (.ireturn, 1) := dk_172 (dk_at dksX0_append_0 17 rfl rfl)
theorem dX0_append_18 : decode cX0_append 18 = .ok (.iconst 0, 1) := dk_3 (dk_at dksX0_append_0 18 rfl rfl)
theorem dX0_append_19 : decode cX0_append 19 = .ok (.ireturn, 1) := dk_172 (dk_at dksX0_append_0 19 rfl rfl)
abbrev cX0_undo : ByteArray := method_24_code
def yX0_undo : MethodName := ⟨RX0, "undo", "(LLakeLevels;[J)I"⟩
def dkwX0_undo_0 : List UInt8 := [43, 3, 42, 182, 0, 85, 133, 80, 167, 0, 6, 77, 4, 172, 3, 172]
abbrev dktX0_undo_0 : List UInt8 := dkwX0_undo_0 ++ []
theorem dksX0_undo_0 : cX0_undo.data.toList.drop 0 = dktX0_undo_0 := by decide +kernel
theorem dX0_undo_0 : decode cX0_undo 0 = .ok (.aload_n 1, 1) := dk_43 (dk_at dksX0_undo_0 0 rfl rfl)
theorem dX0_undo_1 : decode cX0_undo 1 = .ok (.iconst 0, 1) := dk_3 (dk_at dksX0_undo_0 1 rfl rfl)
theorem dX0_undo_2 : decode cX0_undo 2 = .ok (.aload_n 0, 1) := dk_42 (dk_at dksX0_undo_0 2 rfl rfl)
theorem dX0_undo_3 : decode cX0_undo 3 = .ok (.invokevirtual 85, 3) := dk_182 0 85 (dk_at dksX0_undo_0 3 rfl rfl)
theorem dX0_undo_6 : decode cX0_undo 6 = .ok (.i2l, 1) := dk_133 (dk_at dksX0_undo_0 6 rfl rfl)
theorem dX0_undo_7 : decode cX0_undo 7 = .ok (.lastore, 1) := dk_80 (dk_at dksX0_undo_0 7 rfl rfl)
theorem dX0_undo_8 : decode cX0_undo 8 = .ok (.goto 6, 3) := dk_167 0 6 (dk_at dksX0_undo_0 8 rfl rfl)
theorem dX0_undo_11 : decode cX0_undo 11 = .ok (.astore_n 2, 1) := dk_77 (dk_at dksX0_undo_0 11 rfl rfl)
theorem dX0_undo_12 : decode cX0_undo 12 = .ok (.iconst 1, 1) := dk_4 (dk_at dksX0_undo_0 12 rfl rfl)
theorem dX0_undo_13 : decode cX0_undo 13 = .ok (.ireturn, 1) := dk_172 (dk_at dksX0_undo_0 13 rfl rfl)
theorem dX0_undo_14 : decode cX0_undo 14 = .ok (.iconst 0, 1) := dk_3 (dk_at dksX0_undo_0 14 rfl rfl)
theorem dX0_undo_15 : decode cX0_undo 15 = .ok (.ireturn, 1) := dk_172 (dk_at dksX0_undo_0 15 rfl rfl)
theorem q101 : (Jvm.Cond.initialized "LakeLevelsLaw") ∈ lw_all := lw_g (lw_at lw_m1 0 rfl) rfl
theorem q149 : (Jvm.Cond.classLink "LakeLevelsLaw" (8 : Nat) "LakeLevels") ∈ lw_all := lw_g (lw_at lw_m1 48 rfl) rfl
theorem q151 : (Jvm.Cond.methodLink "LakeLevelsLaw" (89 : Nat) ({ cls := "LakeLevels", name := "<init>", desc := "()V" } : Jvm.MethodName)) ∈ lw_all := lw_g (lw_at lw_m1 50 rfl) rfl
theorem q973 : (Jvm.Cond.methodLink "LakeLevelsLaw" (155 : Nat) ({ cls := "LakeLevels", name := "deepest", desc := "()I" } : Jvm.MethodName)) ∈ lw_all := lw_g (lw_at lw_m4 152 rfl) rfl
theorem q1019 : (Jvm.Cond.methodLink "LakeLevelsLaw" (165 : Nat) ({ cls := "LakeLevels", name := "rainToJoin", desc := "()I" } : Jvm.MethodName)) ∈ lw_all := lw_g (lw_at lw_m4 198 rfl) rfl
theorem q1390 : (Jvm.Cond.methodLink "LakeLevelsLaw" (175 : Nat) ({ cls := "LakeLevels", name := "clearText", desc := "()I" } : Jvm.MethodName)) ∈ lw_all := lw_g (lw_at lw_m6 89 rfl) rfl
theorem q1394 : (Jvm.Cond.methodLink "LakeLevelsLaw" (179 : Nat) ({ cls := "LakeLevels", name := "parse", desc := "()I" } : Jvm.MethodName)) ∈ lw_all := lw_g (lw_at lw_m6 93 rfl) rfl
theorem q1489 : (Jvm.Cond.methodLink "LakeLevelsLaw" (187 : Nat) ({ cls := "LakeLevels", name := "digest", desc := "()J" } : Jvm.MethodName)) ∈ lw_all := lw_g (lw_at lw_m6 188 rfl) rfl
theorem q1594 : (Jvm.Cond.methodLink "LakeLevelsLaw" (93 : Nat) ({ cls := "LakeLevelsLaw", name := "begin", desc := "(LLakeLevels;II[J)I" } : Jvm.MethodName)) ∈ lw_all := lw_g (lw_at lw_m7 53 rfl) rfl
theorem q1595 : (Jvm.Cond.static ({ cls := "LakeLevelsLaw", name := "begin", desc := "(LLakeLevels;II[J)I" } : Jvm.MethodName)) ∈ lw_all := lw_g (lw_at lw_m7 54 rfl) rfl
theorem q1596 : (Jvm.Cond.codeWith ({ cls := "LakeLevelsLaw", name := "begin", desc := "(LLakeLevels;II[J)I" } : Jvm.MethodName) method_3_code (5 : Nat) (Option.some Jvm.ClassFile.FieldType.int) [((0 : Nat), (10 : Nat), (13 : Nat), (13 : Nat))]) ∈ lw_all := lw_g (lw_at lw_m7 55 rfl) rfl
theorem q1597 : (Jvm.Cond.classLink "LakeLevelsLaw" (13 : Nat) "java/lang/IllegalArgumentException") ∈ lw_all := lw_g (lw_at lw_m7 56 rfl) rfl
theorem q1598 : (Jvm.Cond.methodLink "LakeLevelsLaw" (7 : Nat) ({ cls := "LakeLevels", name := "begin", desc := "(II)I" } : Jvm.MethodName)) ∈ lw_all := lw_g (lw_at lw_m7 57 rfl) rfl
theorem q1611 : (Jvm.Cond.methodLink "LakeLevelsLaw" (102 : Nat) ({ cls := "LakeLevelsLaw", name := "setHeight", desc := "(LLakeLevels;II[J)I" } : Jvm.MethodName)) ∈ lw_all := lw_g (lw_at lw_m7 70 rfl) rfl
theorem q1612 : (Jvm.Cond.static ({ cls := "LakeLevelsLaw", name := "setHeight", desc := "(LLakeLevels;II[J)I" } : Jvm.MethodName)) ∈ lw_all := lw_g (lw_at lw_m7 71 rfl) rfl
theorem q1613 : (Jvm.Cond.codeWith ({ cls := "LakeLevelsLaw", name := "setHeight", desc := "(LLakeLevels;II[J)I" } : Jvm.MethodName) method_4_code (5 : Nat) (Option.some Jvm.ClassFile.FieldType.int) [((0 : Nat), (10 : Nat), (13 : Nat), (18 : Nat)), ((0 : Nat), (10 : Nat), (17 : Nat), (13 : Nat))]) ∈ lw_all := lw_g (lw_at lw_m7 72 rfl) rfl
theorem q1614 : (Jvm.Cond.classLink "LakeLevelsLaw" (18 : Nat) "java/lang/IndexOutOfBoundsException") ∈ lw_all := lw_g (lw_at lw_m7 73 rfl) rfl
theorem q1630 : (Jvm.Cond.methodLink "LakeLevelsLaw" (15 : Nat) ({ cls := "LakeLevels", name := "setHeight", desc := "(II)I" } : Jvm.MethodName)) ∈ lw_all := lw_g (lw_at lw_m7 89 rfl) rfl
theorem q1793 : (Jvm.Cond.methodLink "LakeLevelsLaw" (105 : Nat) ({ cls := "LakeLevelsLaw", name := "setDrain", desc := "(LLakeLevels;IZ[J)I" } : Jvm.MethodName)) ∈ lw_all := lw_g (lw_at lw_m8 12 rfl) rfl
theorem q1794 : (Jvm.Cond.static ({ cls := "LakeLevelsLaw", name := "setDrain", desc := "(LLakeLevels;IZ[J)I" } : Jvm.MethodName)) ∈ lw_all := lw_g (lw_at lw_m8 13 rfl) rfl
theorem q1795 : (Jvm.Cond.codeWith ({ cls := "LakeLevelsLaw", name := "setDrain", desc := "(LLakeLevels;IZ[J)I" } : Jvm.MethodName) method_5_code (5 : Nat) (Option.some Jvm.ClassFile.FieldType.int) [((0 : Nat), (17 : Nat), (20 : Nat), (18 : Nat))]) ∈ lw_all := lw_g (lw_at lw_m8 14 rfl) rfl
theorem q1796 : (Jvm.Cond.methodLink "LakeLevelsLaw" (20 : Nat) ({ cls := "LakeLevels", name := "setDrain", desc := "(IZ)Z" } : Jvm.MethodName)) ∈ lw_all := lw_g (lw_at lw_m8 15 rfl) rfl
theorem q1817 : (Jvm.Cond.methodLink "LakeLevelsLaw" (109 : Nat) ({ cls := "LakeLevelsLaw", name := "setGate", desc := "(LLakeLevels;III[J)I" } : Jvm.MethodName)) ∈ lw_all := lw_g (lw_at lw_m8 36 rfl) rfl
theorem q1818 : (Jvm.Cond.static ({ cls := "LakeLevelsLaw", name := "setGate", desc := "(LLakeLevels;III[J)I" } : Jvm.MethodName)) ∈ lw_all := lw_g (lw_at lw_m8 37 rfl) rfl
theorem q1819 : (Jvm.Cond.codeWith ({ cls := "LakeLevelsLaw", name := "setGate", desc := "(LLakeLevels;III[J)I" } : Jvm.MethodName) method_6_code (6 : Nat) (Option.some Jvm.ClassFile.FieldType.int) [((0 : Nat), (12 : Nat), (15 : Nat), (18 : Nat)), ((0 : Nat), (12 : Nat), (19 : Nat), (13 : Nat))]) ∈ lw_all := lw_g (lw_at lw_m8 38 rfl) rfl
theorem q1820 : (Jvm.Cond.methodLink "LakeLevelsLaw" (24 : Nat) ({ cls := "LakeLevels", name := "setGate", desc := "(III)I" } : Jvm.MethodName)) ∈ lw_all := lw_g (lw_at lw_m8 39 rfl) rfl
theorem q1846 : (Jvm.Cond.methodLink "LakeLevelsLaw" (113 : Nat) ({ cls := "LakeLevelsLaw", name := "random", desc := "(LLakeLevels;II[J)I" } : Jvm.MethodName)) ∈ lw_all := lw_g (lw_at lw_m8 65 rfl) rfl
theorem q1847 : (Jvm.Cond.static ({ cls := "LakeLevelsLaw", name := "random", desc := "(LLakeLevels;II[J)I" } : Jvm.MethodName)) ∈ lw_all := lw_g (lw_at lw_m8 66 rfl) rfl
theorem q1848 : (Jvm.Cond.codeWith ({ cls := "LakeLevelsLaw", name := "random", desc := "(LLakeLevels;II[J)I" } : Jvm.MethodName) method_7_code (5 : Nat) (Option.some Jvm.ClassFile.FieldType.int) [((0 : Nat), (10 : Nat), (13 : Nat), (13 : Nat))]) ∈ lw_all := lw_g (lw_at lw_m8 67 rfl) rfl
theorem q1849 : (Jvm.Cond.methodLink "LakeLevelsLaw" (28 : Nat) ({ cls := "LakeLevels", name := "random", desc := "(II)I" } : Jvm.MethodName)) ∈ lw_all := lw_g (lw_at lw_m8 68 rfl) rfl
theorem q1870 : (Jvm.Cond.methodLink "LakeLevelsLaw" (116 : Nat) ({ cls := "LakeLevelsLaw", name := "cell", desc := "(LLakeLevels;II[J)I" } : Jvm.MethodName)) ∈ lw_all := lw_g (lw_at lw_m8 89 rfl) rfl
theorem q1871 : (Jvm.Cond.static ({ cls := "LakeLevelsLaw", name := "cell", desc := "(LLakeLevels;II[J)I" } : Jvm.MethodName)) ∈ lw_all := lw_g (lw_at lw_m8 90 rfl) rfl
theorem q1872 : (Jvm.Cond.codeWith ({ cls := "LakeLevelsLaw", name := "cell", desc := "(LLakeLevels;II[J)I" } : Jvm.MethodName) method_8_code (5 : Nat) (Option.some Jvm.ClassFile.FieldType.int) [((0 : Nat), (10 : Nat), (13 : Nat), (18 : Nat)), ((0 : Nat), (10 : Nat), (17 : Nat), (13 : Nat))]) ∈ lw_all := lw_g (lw_at lw_m8 91 rfl) rfl
theorem q1873 : (Jvm.Cond.methodLink "LakeLevelsLaw" (31 : Nat) ({ cls := "LakeLevels", name := "cell", desc := "(II)I" } : Jvm.MethodName)) ∈ lw_all := lw_g (lw_at lw_m8 92 rfl) rfl
theorem q1877 : (Jvm.Cond.methodLink "LakeLevelsLaw" (119 : Nat) ({ cls := "LakeLevelsLaw", name := "between", desc := "(LLakeLevels;IIZ[J)I" } : Jvm.MethodName)) ∈ lw_all := lw_g (lw_at lw_m8 96 rfl) rfl
theorem q1878 : (Jvm.Cond.static ({ cls := "LakeLevelsLaw", name := "between", desc := "(LLakeLevels;IIZ[J)I" } : Jvm.MethodName)) ∈ lw_all := lw_g (lw_at lw_m8 97 rfl) rfl
theorem q1879 : (Jvm.Cond.codeWith ({ cls := "LakeLevelsLaw", name := "between", desc := "(LLakeLevels;IIZ[J)I" } : Jvm.MethodName) method_9_code (6 : Nat) (Option.some Jvm.ClassFile.FieldType.int) [((0 : Nat), (12 : Nat), (15 : Nat), (18 : Nat))]) ∈ lw_all := lw_g (lw_at lw_m8 98 rfl) rfl
theorem q1880 : (Jvm.Cond.methodLink "LakeLevelsLaw" (34 : Nat) ({ cls := "LakeLevels", name := "between", desc := "(IIZ)I" } : Jvm.MethodName)) ∈ lw_all := lw_g (lw_at lw_m8 99 rfl) rfl
theorem q1885 : (Jvm.Cond.methodLink "LakeLevelsLaw" (123 : Nat) ({ cls := "LakeLevelsLaw", name := "count", desc := "(LLakeLevels;I[J)I" } : Jvm.MethodName)) ∈ lw_all := lw_g (lw_at lw_m8 104 rfl) rfl
theorem q1886 : (Jvm.Cond.static ({ cls := "LakeLevelsLaw", name := "count", desc := "(LLakeLevels;I[J)I" } : Jvm.MethodName)) ∈ lw_all := lw_g (lw_at lw_m8 105 rfl) rfl
theorem q1887 : (Jvm.Cond.codeWith ({ cls := "LakeLevelsLaw", name := "count", desc := "(LLakeLevels;I[J)I" } : Jvm.MethodName) method_10_code (4 : Nat) (Option.some Jvm.ClassFile.FieldType.int) [((0 : Nat), (9 : Nat), (12 : Nat), (13 : Nat))]) ∈ lw_all := lw_g (lw_at lw_m8 106 rfl) rfl
theorem q1888 : (Jvm.Cond.methodLink "LakeLevelsLaw" (38 : Nat) ({ cls := "LakeLevels", name := "count", desc := "(I)I" } : Jvm.MethodName)) ∈ lw_all := lw_g (lw_at lw_m8 107 rfl) rfl
theorem q1892 : (Jvm.Cond.methodLink "LakeLevelsLaw" (127 : Nat) ({ cls := "LakeLevelsLaw", name := "pour", desc := "(LLakeLevels;II[J)I" } : Jvm.MethodName)) ∈ lw_all := lw_g (lw_at lw_m8 111 rfl) rfl
theorem q1893 : (Jvm.Cond.static ({ cls := "LakeLevelsLaw", name := "pour", desc := "(LLakeLevels;II[J)I" } : Jvm.MethodName)) ∈ lw_all := lw_g (lw_at lw_m8 112 rfl) rfl
theorem q1894 : (Jvm.Cond.codeWith ({ cls := "LakeLevelsLaw", name := "pour", desc := "(LLakeLevels;II[J)I" } : Jvm.MethodName) method_11_code (5 : Nat) (Option.some Jvm.ClassFile.FieldType.int) [((0 : Nat), (10 : Nat), (13 : Nat), (18 : Nat)), ((0 : Nat), (10 : Nat), (17 : Nat), (13 : Nat)), ((0 : Nat), (10 : Nat), (21 : Nat), (45 : Nat))]) ∈ lw_all := lw_g (lw_at lw_m8 113 rfl) rfl
theorem q1895 : (Jvm.Cond.classLink "LakeLevelsLaw" (45 : Nat) "java/lang/IllegalStateException") ∈ lw_all := lw_g (lw_at lw_m8 114 rfl) rfl
theorem q1896 : (Jvm.Cond.methodLink "LakeLevelsLaw" (42 : Nat) ({ cls := "LakeLevels", name := "pour", desc := "(II)I" } : Jvm.MethodName)) ∈ lw_all := lw_g (lw_at lw_m8 115 rfl) rfl
theorem q1910 : (Jvm.Cond.methodLink "LakeLevelsLaw" (130 : Nat) ({ cls := "LakeLevelsLaw", name := "rain", desc := "(LLakeLevels;I[J)I" } : Jvm.MethodName)) ∈ lw_all := lw_g (lw_at lw_m8 129 rfl) rfl
theorem q1911 : (Jvm.Cond.static ({ cls := "LakeLevelsLaw", name := "rain", desc := "(LLakeLevels;I[J)I" } : Jvm.MethodName)) ∈ lw_all := lw_g (lw_at lw_m8 130 rfl) rfl
theorem q1912 : (Jvm.Cond.codeWith ({ cls := "LakeLevelsLaw", name := "rain", desc := "(LLakeLevels;I[J)I" } : Jvm.MethodName) method_12_code (4 : Nat) (Option.some Jvm.ClassFile.FieldType.int) [((0 : Nat), (9 : Nat), (12 : Nat), (13 : Nat)), ((0 : Nat), (9 : Nat), (15 : Nat), (45 : Nat))]) ∈ lw_all := lw_g (lw_at lw_m8 131 rfl) rfl
theorem q1913 : (Jvm.Cond.methodLink "LakeLevelsLaw" (47 : Nat) ({ cls := "LakeLevels", name := "rain", desc := "(I)I" } : Jvm.MethodName)) ∈ lw_all := lw_g (lw_at lw_m8 132 rfl) rfl
theorem q1917 : (Jvm.Cond.methodLink "LakeLevelsLaw" (133 : Nat) ({ cls := "LakeLevelsLaw", name := "evaporate", desc := "(LLakeLevels;I[J)I" } : Jvm.MethodName)) ∈ lw_all := lw_g (lw_at lw_m8 136 rfl) rfl
theorem q1918 : (Jvm.Cond.static ({ cls := "LakeLevelsLaw", name := "evaporate", desc := "(LLakeLevels;I[J)I" } : Jvm.MethodName)) ∈ lw_all := lw_g (lw_at lw_m8 137 rfl) rfl
theorem q1919 : (Jvm.Cond.codeWith ({ cls := "LakeLevelsLaw", name := "evaporate", desc := "(LLakeLevels;I[J)I" } : Jvm.MethodName) method_13_code (4 : Nat) (Option.some Jvm.ClassFile.FieldType.int) [((0 : Nat), (9 : Nat), (12 : Nat), (13 : Nat))]) ∈ lw_all := lw_g (lw_at lw_m8 138 rfl) rfl
theorem q1920 : (Jvm.Cond.methodLink "LakeLevelsLaw" (50 : Nat) ({ cls := "LakeLevels", name := "evaporate", desc := "(I)I" } : Jvm.MethodName)) ∈ lw_all := lw_g (lw_at lw_m8 139 rfl) rfl
theorem q1940 : (Jvm.Cond.methodLink "LakeLevelsLaw" (136 : Nat) ({ cls := "LakeLevelsLaw", name := "take", desc := "(LLakeLevels;II[J)I" } : Jvm.MethodName)) ∈ lw_all := lw_g (lw_at lw_m8 159 rfl) rfl
theorem q1941 : (Jvm.Cond.static ({ cls := "LakeLevelsLaw", name := "take", desc := "(LLakeLevels;II[J)I" } : Jvm.MethodName)) ∈ lw_all := lw_g (lw_at lw_m8 160 rfl) rfl
theorem q1942 : (Jvm.Cond.codeWith ({ cls := "LakeLevelsLaw", name := "take", desc := "(LLakeLevels;II[J)I" } : Jvm.MethodName) method_14_code (5 : Nat) (Option.some Jvm.ClassFile.FieldType.int) [((0 : Nat), (10 : Nat), (13 : Nat), (18 : Nat)), ((0 : Nat), (10 : Nat), (17 : Nat), (13 : Nat))]) ∈ lw_all := lw_g (lw_at lw_m8 161 rfl) rfl
theorem q1943 : (Jvm.Cond.methodLink "LakeLevelsLaw" (53 : Nat) ({ cls := "LakeLevels", name := "take", desc := "(II)I" } : Jvm.MethodName)) ∈ lw_all := lw_g (lw_at lw_m8 162 rfl) rfl
theorem q1953 : (Jvm.Cond.methodLink "LakeLevelsLaw" (139 : Nat) ({ cls := "LakeLevelsLaw", name := "balance", desc := "(LLakeLevels;I[J)I" } : Jvm.MethodName)) ∈ lw_all := lw_g (lw_at lw_m8 172 rfl) rfl
theorem q1954 : (Jvm.Cond.static ({ cls := "LakeLevelsLaw", name := "balance", desc := "(LLakeLevels;I[J)I" } : Jvm.MethodName)) ∈ lw_all := lw_g (lw_at lw_m8 173 rfl) rfl
theorem q1955 : (Jvm.Cond.codeWith ({ cls := "LakeLevelsLaw", name := "balance", desc := "(LLakeLevels;I[J)I" } : Jvm.MethodName) method_15_code (4 : Nat) (Option.some Jvm.ClassFile.FieldType.int) [((0 : Nat), (8 : Nat), (11 : Nat), (13 : Nat))]) ∈ lw_all := lw_g (lw_at lw_m8 174 rfl) rfl
theorem q1956 : (Jvm.Cond.methodLink "LakeLevelsLaw" (56 : Nat) ({ cls := "LakeLevels", name := "balance", desc := "(I)J" } : Jvm.MethodName)) ∈ lw_all := lw_g (lw_at lw_m8 175 rfl) rfl
theorem q1960 : (Jvm.Cond.methodLink "LakeLevelsLaw" (142 : Nat) ({ cls := "LakeLevelsLaw", name := "lake", desc := "(LLakeLevels;II[J)I" } : Jvm.MethodName)) ∈ lw_all := lw_g (lw_at lw_m8 179 rfl) rfl
theorem q1961 : (Jvm.Cond.static ({ cls := "LakeLevelsLaw", name := "lake", desc := "(LLakeLevels;II[J)I" } : Jvm.MethodName)) ∈ lw_all := lw_g (lw_at lw_m8 180 rfl) rfl
theorem q1962 : (Jvm.Cond.codeWith ({ cls := "LakeLevelsLaw", name := "lake", desc := "(LLakeLevels;II[J)I" } : Jvm.MethodName) method_16_code (5 : Nat) (Option.some Jvm.ClassFile.FieldType.int) [((0 : Nat), (10 : Nat), (13 : Nat), (18 : Nat)), ((0 : Nat), (10 : Nat), (17 : Nat), (13 : Nat))]) ∈ lw_all := lw_g (lw_at lw_m8 181 rfl) rfl
theorem q1963 : (Jvm.Cond.methodLink "LakeLevelsLaw" (60 : Nat) ({ cls := "LakeLevels", name := "lake", desc := "(II)I" } : Jvm.MethodName)) ∈ lw_all := lw_g (lw_at lw_m8 182 rfl) rfl
theorem q1967 : (Jvm.Cond.methodLink "LakeLevelsLaw" (145 : Nat) ({ cls := "LakeLevelsLaw", name := "lakeCells", desc := "(LLakeLevels;I[J)I" } : Jvm.MethodName)) ∈ lw_all := lw_g (lw_at lw_m8 186 rfl) rfl
theorem q1968 : (Jvm.Cond.static ({ cls := "LakeLevelsLaw", name := "lakeCells", desc := "(LLakeLevels;I[J)I" } : Jvm.MethodName)) ∈ lw_all := lw_g (lw_at lw_m8 187 rfl) rfl
theorem q1969 : (Jvm.Cond.codeWith ({ cls := "LakeLevelsLaw", name := "lakeCells", desc := "(LLakeLevels;I[J)I" } : Jvm.MethodName) method_17_code (4 : Nat) (Option.some Jvm.ClassFile.FieldType.int) [((0 : Nat), (8 : Nat), (11 : Nat), (18 : Nat))]) ∈ lw_all := lw_g (lw_at lw_m8 188 rfl) rfl
theorem q1970 : (Jvm.Cond.methodLink "LakeLevelsLaw" (63 : Nat) ({ cls := "LakeLevels", name := "lakeCells", desc := "(I)J" } : Jvm.MethodName)) ∈ lw_all := lw_g (lw_at lw_m8 189 rfl) rfl
theorem q1974 : (Jvm.Cond.methodLink "LakeLevelsLaw" (148 : Nat) ({ cls := "LakeLevelsLaw", name := "level", desc := "(LLakeLevels;II[J)I" } : Jvm.MethodName)) ∈ lw_all := lw_g (lw_at lw_m8 193 rfl) rfl
theorem q1975 : (Jvm.Cond.static ({ cls := "LakeLevelsLaw", name := "level", desc := "(LLakeLevels;II[J)I" } : Jvm.MethodName)) ∈ lw_all := lw_g (lw_at lw_m8 194 rfl) rfl
theorem q1976 : (Jvm.Cond.codeWith ({ cls := "LakeLevelsLaw", name := "level", desc := "(LLakeLevels;II[J)I" } : Jvm.MethodName) method_18_code (5 : Nat) (Option.some Jvm.ClassFile.FieldType.int) [((0 : Nat), (10 : Nat), (13 : Nat), (18 : Nat)), ((0 : Nat), (10 : Nat), (17 : Nat), (13 : Nat))]) ∈ lw_all := lw_g (lw_at lw_m8 195 rfl) rfl
theorem q1977 : (Jvm.Cond.methodLink "LakeLevelsLaw" (66 : Nat) ({ cls := "LakeLevels", name := "level", desc := "(II)I" } : Jvm.MethodName)) ∈ lw_all := lw_g (lw_at lw_m8 196 rfl) rfl
theorem q1981 : (Jvm.Cond.methodLink "LakeLevelsLaw" (151 : Nat) ({ cls := "LakeLevelsLaw", name := "depth", desc := "(LLakeLevels;I[D)I" } : Jvm.MethodName)) ∈ lw_all := lw_g (lw_at lw_m8 200 rfl) rfl
theorem q1982 : (Jvm.Cond.static ({ cls := "LakeLevelsLaw", name := "depth", desc := "(LLakeLevels;I[D)I" } : Jvm.MethodName)) ∈ lw_all := lw_g (lw_at lw_m8 201 rfl) rfl
theorem q1983 : (Jvm.Cond.codeWith ({ cls := "LakeLevelsLaw", name := "depth", desc := "(LLakeLevels;I[D)I" } : Jvm.MethodName) method_19_code (4 : Nat) (Option.some Jvm.ClassFile.FieldType.int) [((0 : Nat), (8 : Nat), (11 : Nat), (18 : Nat))]) ∈ lw_all := lw_g (lw_at lw_m8 202 rfl) rfl
theorem q1984 : (Jvm.Cond.methodLink "LakeLevelsLaw" (69 : Nat) ({ cls := "LakeLevels", name := "depth", desc := "(I)D" } : Jvm.MethodName)) ∈ lw_all := lw_g (lw_at lw_m8 203 rfl) rfl
theorem q1988 : (Jvm.Cond.methodLink "LakeLevelsLaw" (159 : Nat) ({ cls := "LakeLevelsLaw", name := "course", desc := "(LLakeLevels;I[J)I" } : Jvm.MethodName)) ∈ lw_all := lw_g (lw_at lw_m8 207 rfl) rfl
theorem q1989 : (Jvm.Cond.static ({ cls := "LakeLevelsLaw", name := "course", desc := "(LLakeLevels;I[J)I" } : Jvm.MethodName)) ∈ lw_all := lw_g (lw_at lw_m8 208 rfl) rfl
theorem q1990 : (Jvm.Cond.codeWith ({ cls := "LakeLevelsLaw", name := "course", desc := "(LLakeLevels;I[J)I" } : Jvm.MethodName) method_20_code (4 : Nat) (Option.some Jvm.ClassFile.FieldType.int) [((0 : Nat), (8 : Nat), (11 : Nat), (18 : Nat))]) ∈ lw_all := lw_g (lw_at lw_m8 209 rfl) rfl
theorem q1991 : (Jvm.Cond.methodLink "LakeLevelsLaw" (73 : Nat) ({ cls := "LakeLevels", name := "course", desc := "(I)J" } : Jvm.MethodName)) ∈ lw_all := lw_g (lw_at lw_m8 210 rfl) rfl
theorem q1999 : (Jvm.Cond.methodLink "LakeLevelsLaw" (162 : Nat) ({ cls := "LakeLevelsLaw", name := "amountFor", desc := "(LLakeLevels;II[J)I" } : Jvm.MethodName)) ∈ lw_all := lw_g (lw_at lw_m8 218 rfl) rfl
theorem q2000 : (Jvm.Cond.static ({ cls := "LakeLevelsLaw", name := "amountFor", desc := "(LLakeLevels;II[J)I" } : Jvm.MethodName)) ∈ lw_all := lw_g (lw_at lw_m8 219 rfl) rfl
theorem q2001 : (Jvm.Cond.codeWith ({ cls := "LakeLevelsLaw", name := "amountFor", desc := "(LLakeLevels;II[J)I" } : Jvm.MethodName) method_21_code (5 : Nat) (Option.some Jvm.ClassFile.FieldType.int) [((0 : Nat), (10 : Nat), (13 : Nat), (18 : Nat))]) ∈ lw_all := lw_g (lw_at lw_m8 220 rfl) rfl
theorem q2002 : (Jvm.Cond.methodLink "LakeLevelsLaw" (76 : Nat) ({ cls := "LakeLevels", name := "amountFor", desc := "(II)I" } : Jvm.MethodName)) ∈ lw_all := lw_g (lw_at lw_m8 221 rfl) rfl
theorem q2011 : (Jvm.Cond.methodLink "LakeLevelsLaw" (169 : Nat) ({ cls := "LakeLevelsLaw", name := "withoutGate", desc := "(LLakeLevels;II[J)I" } : Jvm.MethodName)) ∈ lw_all := lw_g (lw_at lw_m8 230 rfl) rfl
theorem q2012 : (Jvm.Cond.static ({ cls := "LakeLevelsLaw", name := "withoutGate", desc := "(LLakeLevels;II[J)I" } : Jvm.MethodName)) ∈ lw_all := lw_g (lw_at lw_m8 231 rfl) rfl
theorem q2013 : (Jvm.Cond.codeWith ({ cls := "LakeLevelsLaw", name := "withoutGate", desc := "(LLakeLevels;II[J)I" } : Jvm.MethodName) method_22_code (5 : Nat) (Option.some Jvm.ClassFile.FieldType.int) [((0 : Nat), (10 : Nat), (13 : Nat), (18 : Nat))]) ∈ lw_all := lw_g (lw_at lw_m8 232 rfl) rfl
theorem q2014 : (Jvm.Cond.methodLink "LakeLevelsLaw" (79 : Nat) ({ cls := "LakeLevels", name := "withoutGate", desc := "(II)I" } : Jvm.MethodName)) ∈ lw_all := lw_g (lw_at lw_m8 233 rfl) rfl
theorem q2019 : (Jvm.Cond.methodLink "LakeLevelsLaw" (172 : Nat) ({ cls := "LakeLevelsLaw", name := "append", desc := "(LLakeLevels;I[J)I" } : Jvm.MethodName)) ∈ lw_all := lw_g (lw_at lw_m8 238 rfl) rfl
theorem q2020 : (Jvm.Cond.static ({ cls := "LakeLevelsLaw", name := "append", desc := "(LLakeLevels;I[J)I" } : Jvm.MethodName)) ∈ lw_all := lw_g (lw_at lw_m8 239 rfl) rfl
theorem q2021 : (Jvm.Cond.codeWith ({ cls := "LakeLevelsLaw", name := "append", desc := "(LLakeLevels;I[J)I" } : Jvm.MethodName) method_23_code (4 : Nat) (Option.some Jvm.ClassFile.FieldType.int) [((0 : Nat), (9 : Nat), (12 : Nat), (13 : Nat)), ((0 : Nat), (9 : Nat), (15 : Nat), (45 : Nat))]) ∈ lw_all := lw_g (lw_at lw_m9 0 rfl) rfl
theorem q2022 : (Jvm.Cond.methodLink "LakeLevelsLaw" (82 : Nat) ({ cls := "LakeLevels", name := "append", desc := "(I)I" } : Jvm.MethodName)) ∈ lw_all := lw_g (lw_at lw_m9 1 rfl) rfl
theorem q2026 : (Jvm.Cond.methodLink "LakeLevelsLaw" (183 : Nat) ({ cls := "LakeLevelsLaw", name := "undo", desc := "(LLakeLevels;[J)I" } : Jvm.MethodName)) ∈ lw_all := lw_g (lw_at lw_m9 5 rfl) rfl
theorem q2027 : (Jvm.Cond.static ({ cls := "LakeLevelsLaw", name := "undo", desc := "(LLakeLevels;[J)I" } : Jvm.MethodName)) ∈ lw_all := lw_g (lw_at lw_m9 6 rfl) rfl
theorem q2028 : (Jvm.Cond.codeWith ({ cls := "LakeLevelsLaw", name := "undo", desc := "(LLakeLevels;[J)I" } : Jvm.MethodName) method_24_code (3 : Nat) (Option.some Jvm.ClassFile.FieldType.int) [((0 : Nat), (8 : Nat), (11 : Nat), (45 : Nat))]) ∈ lw_all := lw_g (lw_at lw_m9 7 rfl) rfl
theorem q2029 : (Jvm.Cond.methodLink "LakeLevelsLaw" (85 : Nat) ({ cls := "LakeLevels", name := "undo", desc := "()I" } : Jvm.MethodName)) ∈ lw_all := lw_g (lw_at lw_m9 8 rfl) rfl
theorem q2045 : (Jvm.Cond.classLink "LakeLevelsLaw" (90 : Nat) "LakeLevelsModel") ∈ lw_all := lw_g (lw_at lw_m9 24 rfl) rfl
theorem q2047 : (Jvm.Cond.methodLink "LakeLevelsLaw" (92 : Nat) ({ cls := "LakeLevelsModel", name := "<init>", desc := "()V" } : Jvm.MethodName)) ∈ lw_all := lw_g (lw_at lw_m9 26 rfl) rfl
theorem q2178 : (Jvm.Cond.methodLink "LakeLevelsLaw" (99 : Nat) ({ cls := "LakeLevelsModel", name := "thrown", desc := "()I" } : Jvm.MethodName)) ∈ lw_all := lw_g (lw_at lw_m9 157 rfl) rfl
theorem q2182 : (Jvm.Cond.methodLink "LakeLevelsLaw" (98 : Nat) ({ cls := "LakeLevelsModel", name := "begin", desc := "(II)I" } : Jvm.MethodName)) ∈ lw_all := lw_g (lw_at lw_m9 161 rfl) rfl
theorem q2198 : (Jvm.Cond.methodLink "LakeLevelsLaw" (104 : Nat) ({ cls := "LakeLevelsModel", name := "setHeight", desc := "(II)I" } : Jvm.MethodName)) ∈ lw_all := lw_g (lw_at lw_m9 177 rfl) rfl
theorem q2243 : (Jvm.Cond.methodLink "LakeLevelsLaw" (108 : Nat) ({ cls := "LakeLevelsModel", name := "setDrain", desc := "(IZ)Z" } : Jvm.MethodName)) ∈ lw_all := lw_g (lw_at lw_m9 222 rfl) rfl
theorem q2247 : (Jvm.Cond.methodLink "LakeLevelsLaw" (112 : Nat) ({ cls := "LakeLevelsModel", name := "setGate", desc := "(III)I" } : Jvm.MethodName)) ∈ lw_all := lw_g (lw_at lw_m9 226 rfl) rfl
theorem q2259 : (Jvm.Cond.methodLink "LakeLevelsLaw" (115 : Nat) ({ cls := "LakeLevelsModel", name := "random", desc := "(II)I" } : Jvm.MethodName)) ∈ lw_all := lw_g (lw_at lw_m9 238 rfl) rfl
theorem q2268 : (Jvm.Cond.methodLink "LakeLevelsLaw" (118 : Nat) ({ cls := "LakeLevelsModel", name := "cell", desc := "(II)I" } : Jvm.MethodName)) ∈ lw_all := lw_g (lw_at lw_m10 7 rfl) rfl
theorem q2289 : (Jvm.Cond.methodLink "LakeLevelsLaw" (122 : Nat) ({ cls := "LakeLevelsModel", name := "between", desc := "(IIZ)I" } : Jvm.MethodName)) ∈ lw_all := lw_g (lw_at lw_m10 28 rfl) rfl
theorem q2293 : (Jvm.Cond.methodLink "LakeLevelsLaw" (126 : Nat) ({ cls := "LakeLevelsModel", name := "count", desc := "(I)I" } : Jvm.MethodName)) ∈ lw_all := lw_g (lw_at lw_m10 32 rfl) rfl
theorem q2313 : (Jvm.Cond.methodLink "LakeLevelsLaw" (129 : Nat) ({ cls := "LakeLevelsModel", name := "pour", desc := "(II)I" } : Jvm.MethodName)) ∈ lw_all := lw_g (lw_at lw_m10 52 rfl) rfl
theorem q2323 : (Jvm.Cond.methodLink "LakeLevelsLaw" (132 : Nat) ({ cls := "LakeLevelsModel", name := "rain", desc := "(I)I" } : Jvm.MethodName)) ∈ lw_all := lw_g (lw_at lw_m10 62 rfl) rfl
theorem q2328 : (Jvm.Cond.methodLink "LakeLevelsLaw" (135 : Nat) ({ cls := "LakeLevelsModel", name := "evaporate", desc := "(I)I" } : Jvm.MethodName)) ∈ lw_all := lw_g (lw_at lw_m10 67 rfl) rfl
theorem q2353 : (Jvm.Cond.methodLink "LakeLevelsLaw" (138 : Nat) ({ cls := "LakeLevelsModel", name := "take", desc := "(II)I" } : Jvm.MethodName)) ∈ lw_all := lw_g (lw_at lw_m10 92 rfl) rfl
theorem q2361 : (Jvm.Cond.methodLink "LakeLevelsLaw" (141 : Nat) ({ cls := "LakeLevelsModel", name := "balance", desc := "(I)J" } : Jvm.MethodName)) ∈ lw_all := lw_g (lw_at lw_m10 100 rfl) rfl
theorem q2370 : (Jvm.Cond.methodLink "LakeLevelsLaw" (144 : Nat) ({ cls := "LakeLevelsModel", name := "lake", desc := "(II)I" } : Jvm.MethodName)) ∈ lw_all := lw_g (lw_at lw_m10 109 rfl) rfl
theorem q2386 : (Jvm.Cond.methodLink "LakeLevelsLaw" (147 : Nat) ({ cls := "LakeLevelsModel", name := "lakeCells", desc := "(I)J" } : Jvm.MethodName)) ∈ lw_all := lw_g (lw_at lw_m10 125 rfl) rfl
theorem q2390 : (Jvm.Cond.methodLink "LakeLevelsLaw" (150 : Nat) ({ cls := "LakeLevelsModel", name := "level", desc := "(II)I" } : Jvm.MethodName)) ∈ lw_all := lw_g (lw_at lw_m10 129 rfl) rfl
theorem q2401 : (Jvm.Cond.methodLink "LakeLevelsLaw" (154 : Nat) ({ cls := "LakeLevelsModel", name := "depth", desc := "(I)D" } : Jvm.MethodName)) ∈ lw_all := lw_g (lw_at lw_m10 140 rfl) rfl
theorem q2405 : (Jvm.Cond.methodLink "LakeLevelsLaw" (158 : Nat) ({ cls := "LakeLevelsModel", name := "deepest", desc := "()I" } : Jvm.MethodName)) ∈ lw_all := lw_g (lw_at lw_m10 144 rfl) rfl
theorem q2409 : (Jvm.Cond.methodLink "LakeLevelsLaw" (161 : Nat) ({ cls := "LakeLevelsModel", name := "course", desc := "(I)J" } : Jvm.MethodName)) ∈ lw_all := lw_g (lw_at lw_m10 148 rfl) rfl
theorem q2413 : (Jvm.Cond.methodLink "LakeLevelsLaw" (164 : Nat) ({ cls := "LakeLevelsModel", name := "amountFor", desc := "(II)I" } : Jvm.MethodName)) ∈ lw_all := lw_g (lw_at lw_m10 152 rfl) rfl
theorem q2430 : (Jvm.Cond.methodLink "LakeLevelsLaw" (168 : Nat) ({ cls := "LakeLevelsModel", name := "rainToJoin", desc := "()I" } : Jvm.MethodName)) ∈ lw_all := lw_g (lw_at lw_m10 169 rfl) rfl
theorem q2438 : (Jvm.Cond.methodLink "LakeLevelsLaw" (171 : Nat) ({ cls := "LakeLevelsModel", name := "withoutGate", desc := "(II)I" } : Jvm.MethodName)) ∈ lw_all := lw_g (lw_at lw_m10 177 rfl) rfl
theorem q2442 : (Jvm.Cond.methodLink "LakeLevelsLaw" (174 : Nat) ({ cls := "LakeLevelsModel", name := "append", desc := "(I)I" } : Jvm.MethodName)) ∈ lw_all := lw_g (lw_at lw_m10 181 rfl) rfl
theorem q2447 : (Jvm.Cond.methodLink "LakeLevelsLaw" (178 : Nat) ({ cls := "LakeLevelsModel", name := "clearText", desc := "()I" } : Jvm.MethodName)) ∈ lw_all := lw_g (lw_at lw_m10 186 rfl) rfl
theorem q2451 : (Jvm.Cond.methodLink "LakeLevelsLaw" (182 : Nat) ({ cls := "LakeLevelsModel", name := "parse", desc := "()I" } : Jvm.MethodName)) ∈ lw_all := lw_g (lw_at lw_m10 190 rfl) rfl
theorem q2495 : (Jvm.Cond.methodLink "LakeLevelsLaw" (186 : Nat) ({ cls := "LakeLevelsModel", name := "undo", desc := "()I" } : Jvm.MethodName)) ∈ lw_all := lw_g (lw_at lw_m10 234 rfl) rfl
theorem q2499 : (Jvm.Cond.methodLink "LakeLevelsLaw" (191 : Nat) ({ cls := "LakeLevelsModel", name := "digest", desc := "()J" } : Jvm.MethodName)) ∈ lw_all := lw_g (lw_at lw_m10 238 rfl) rfl

/-! the law's own entry -/
set_option maxRecDepth 100000
abbrev cL_law : ByteArray := code
def dkwL_law_68 : List UInt8 := [182, 0, 191, 148, 153, 0, 5, 3, 172, 132, 5, 4, 167, 249, 126, 4, 172]
abbrev dktL_law_68 : List UInt8 := dkwL_law_68 ++ []
def dkwL_law_67 : List UInt8 := [154, 0, 15, 45, 3, 47, 21, 7, 133, 148, 153, 0, 5, 3, 172, 167, 0, 17, 43, 182, 0, 187, 44]
abbrev dktL_law_67 : List UInt8 := dkwL_law_67 ++ dktL_law_68
def dkwL_law_66 : List UInt8 := [184, 0, 183, 54, 6, 44, 182, 0, 186, 54, 7, 44, 182, 0, 99, 21, 6, 159, 0, 5, 3, 172, 21, 6]
abbrev dktL_law_66 : List UInt8 := dkwL_law_66 ++ dktL_law_67
def dkwL_law_65 : List UInt8 := [182, 0, 178, 159, 0, 76, 3, 172, 43, 182, 0, 179, 44, 182, 0, 182, 159, 0, 63, 3, 172, 43, 45]
abbrev dktL_law_65 : List UInt8 := dkwL_law_65 ++ dktL_law_66
def dkwL_law_64 : List UInt8 := [154, 0, 15, 45, 3, 47, 21, 7, 133, 148, 153, 0, 5, 3, 172, 167, 0, 87, 43, 182, 0, 175, 44]
abbrev dktL_law_64 : List UInt8 := dkwL_law_64 ++ dktL_law_65
def dkwL_law_63 : List UInt8 := [21, 5, 4, 96, 46, 182, 0, 174, 54, 7, 44, 182, 0, 99, 21, 6, 159, 0, 5, 3, 172, 21, 6]
abbrev dktL_law_63 : List UInt8 := dkwL_law_63 ++ dktL_law_64
def dkwL_law_62 : List UInt8 := [153, 0, 5, 3, 172, 167, 0, 143, 43, 42, 21, 5, 4, 96, 46, 45, 184, 0, 172, 54, 6, 44, 42]
abbrev dktL_law_62 : List UInt8 := dkwL_law_62 ++ dktL_law_63
def dkwL_law_61 : List UInt8 := [182, 0, 99, 21, 6, 159, 0, 5, 3, 172, 21, 6, 154, 0, 15, 45, 3, 47, 21, 7, 133, 148]
abbrev dktL_law_61 : List UInt8 := dkwL_law_61 ++ dktL_law_62
def dkwL_law_60 : List UInt8 := [184, 0, 169, 54, 6, 44, 42, 21, 5, 4, 96, 46, 42, 21, 5, 5, 96, 46, 182, 0, 171, 54, 7, 44]
abbrev dktL_law_60 : List UInt8 := dkwL_law_60 ++ dktL_law_61
def dkwL_law_59 : List UInt8 := [182, 0, 168, 159, 0, 213, 3, 172, 43, 42, 21, 5, 4, 96, 46, 42, 21, 5, 5, 96, 46, 45]
abbrev dktL_law_59 : List UInt8 := dkwL_law_59 ++ dktL_law_60
def dkwL_law_58 : List UInt8 := [154, 0, 15, 45, 3, 47, 21, 7, 133, 148, 153, 0, 5, 3, 172, 167, 0, 224, 43, 182, 0, 165, 44]
abbrev dktL_law_58 : List UInt8 := dkwL_law_58 ++ dktL_law_59
def dkwL_law_57 : List UInt8 := [21, 5, 5, 96, 46, 182, 0, 164, 54, 7, 44, 182, 0, 99, 21, 6, 159, 0, 5, 3, 172, 21, 6]
abbrev dktL_law_57 : List UInt8 := dkwL_law_57 ++ dktL_law_58
def dkwL_law_56 : List UInt8 := [4, 96, 46, 42, 21, 5, 5, 96, 46, 45, 184, 0, 162, 54, 6, 44, 42, 21, 5, 4, 96, 46, 42]
abbrev dktL_law_56 : List UInt8 := dkwL_law_56 ++ dktL_law_57
def dkwL_law_55 : List UInt8 := [172, 21, 6, 154, 0, 14, 45, 3, 47, 22, 7, 148, 153, 0, 5, 3, 172, 167, 1, 36, 43, 42, 21, 5]
abbrev dktL_law_55 : List UInt8 := dkwL_law_55 ++ dktL_law_56
def dkwL_law_54 : List UInt8 := [54, 6, 44, 42, 21, 5, 4, 96, 46, 182, 0, 161, 55, 7, 44, 182, 0, 99, 21, 6, 159, 0, 5, 3]
abbrev dktL_law_54 : List UInt8 := dkwL_law_54 ++ dktL_law_55
def dkwL_law_53 : List UInt8 := [182, 0, 155, 44, 182, 0, 158, 159, 1, 93, 3, 172, 43, 42, 21, 5, 4, 96, 46, 45, 184, 0, 159]
abbrev dktL_law_53 : List UInt8 := dkwL_law_53 ++ dktL_law_54
def dkwL_law_52 : List UInt8 := [3, 49, 25, 4, 3, 49, 151, 153, 0, 11, 24, 7, 24, 7, 151, 154, 0, 5, 3, 172, 167, 1, 104, 43]
abbrev dktL_law_52 : List UInt8 := dkwL_law_52 ++ dktL_law_53
def dkwL_law_51 : List UInt8 := [21, 6, 159, 0, 5, 3, 172, 21, 6, 154, 0, 35, 25, 4, 3, 49, 24, 7, 151, 153, 0, 25, 25, 4]
abbrev dktL_law_51 : List UInt8 := dkwL_law_51 ++ dktL_law_52
def dkwL_law_50 : List UInt8 := [46, 25, 4, 184, 0, 151, 54, 6, 44, 42, 21, 5, 4, 96, 46, 182, 0, 154, 57, 7, 44, 182, 0, 99]
abbrev dktL_law_50 : List UInt8 := dkwL_law_50 ++ dktL_law_51
def dkwL_law_49 : List UInt8 := [154, 0, 15, 45, 3, 47, 21, 7, 133, 148, 153, 0, 5, 3, 172, 167, 1, 181, 43, 42, 21, 5, 4, 96]
abbrev dktL_law_49 : List UInt8 := dkwL_law_49 ++ dktL_law_50
def dkwL_law_48 : List UInt8 := [21, 5, 5, 96, 46, 182, 0, 150, 54, 7, 44, 182, 0, 99, 21, 6, 159, 0, 5, 3, 172, 21, 6]
abbrev dktL_law_48 : List UInt8 := dkwL_law_48 ++ dktL_law_49
def dkwL_law_47 : List UInt8 := [4, 96, 46, 42, 21, 5, 5, 96, 46, 45, 184, 0, 148, 54, 6, 44, 42, 21, 5, 4, 96, 46, 42]
abbrev dktL_law_47 : List UInt8 := dkwL_law_47 ++ dktL_law_48
def dkwL_law_46 : List UInt8 := [172, 21, 6, 154, 0, 14, 45, 3, 47, 22, 7, 148, 153, 0, 5, 3, 172, 167, 1, 249, 43, 42, 21, 5]
abbrev dktL_law_46 : List UInt8 := dkwL_law_46 ++ dktL_law_47
def dkwL_law_45 : List UInt8 := [54, 6, 44, 42, 21, 5, 4, 96, 46, 182, 0, 147, 55, 7, 44, 182, 0, 99, 21, 6, 159, 0, 5, 3]
abbrev dktL_law_45 : List UInt8 := dkwL_law_45 ++ dktL_law_46
def dkwL_law_44 : List UInt8 := [47, 21, 7, 133, 148, 153, 0, 5, 3, 172, 167, 2, 48, 43, 42, 21, 5, 4, 96, 46, 45, 184, 0, 145]
abbrev dktL_law_44 : List UInt8 := dkwL_law_44 ++ dktL_law_45
def dkwL_law_43 : List UInt8 := [46, 182, 0, 144, 54, 7, 44, 182, 0, 99, 21, 6, 159, 0, 5, 3, 172, 21, 6, 154, 0, 15, 45, 3]
abbrev dktL_law_43 : List UInt8 := dkwL_law_43 ++ dktL_law_44
def dkwL_law_42 : List UInt8 := [42, 21, 5, 5, 96, 46, 45, 184, 0, 142, 54, 6, 44, 42, 21, 5, 4, 96, 46, 42, 21, 5, 5, 96]
abbrev dktL_law_42 : List UInt8 := dkwL_law_42 ++ dktL_law_43
def dkwL_law_41 : List UInt8 := [154, 0, 14, 45, 3, 47, 22, 7, 148, 153, 0, 5, 3, 172, 167, 2, 116, 43, 42, 21, 5, 4, 96, 46]
abbrev dktL_law_41 : List UInt8 := dkwL_law_41 ++ dktL_law_42
def dkwL_law_40 : List UInt8 := [21, 5, 4, 96, 46, 182, 0, 141, 55, 7, 44, 182, 0, 99, 21, 6, 159, 0, 5, 3, 172, 21, 6]
abbrev dktL_law_40 : List UInt8 := dkwL_law_40 ++ dktL_law_41
def dkwL_law_39 : List UInt8 := [148, 153, 0, 5, 3, 172, 167, 2, 171, 43, 42, 21, 5, 4, 96, 46, 45, 184, 0, 139, 54, 6, 44, 42]
abbrev dktL_law_39 : List UInt8 := dkwL_law_39 ++ dktL_law_40
def dkwL_law_38 : List UInt8 := [54, 7, 44, 182, 0, 99, 21, 6, 159, 0, 5, 3, 172, 21, 6, 154, 0, 15, 45, 3, 47, 21, 7, 133]
abbrev dktL_law_38 : List UInt8 := dkwL_law_38 ++ dktL_law_39
def dkwL_law_37 : List UInt8 := [46, 45, 184, 0, 136, 54, 6, 44, 42, 21, 5, 4, 96, 46, 42, 21, 5, 5, 96, 46, 182, 0, 138]
abbrev dktL_law_37 : List UInt8 := dkwL_law_37 ++ dktL_law_38
def dkwL_law_36 : List UInt8 := [21, 7, 133, 148, 153, 0, 5, 3, 172, 167, 2, 239, 43, 42, 21, 5, 4, 96, 46, 42, 21, 5, 5, 96]
abbrev dktL_law_36 : List UInt8 := dkwL_law_36 ++ dktL_law_37
def dkwL_law_35 : List UInt8 := [182, 0, 135, 54, 7, 44, 182, 0, 99, 21, 6, 159, 0, 5, 3, 172, 21, 6, 154, 0, 15, 45, 3, 47]
abbrev dktL_law_35 : List UInt8 := dkwL_law_35 ++ dktL_law_36
def dkwL_law_34 : List UInt8 := [167, 3, 39, 43, 42, 21, 5, 4, 96, 46, 45, 184, 0, 133, 54, 6, 44, 42, 21, 5, 4, 96, 46]
abbrev dktL_law_34 : List UInt8 := dkwL_law_34 ++ dktL_law_35
def dkwL_law_33 : List UInt8 := [159, 0, 5, 3, 172, 21, 6, 154, 0, 15, 45, 3, 47, 21, 7, 133, 148, 153, 0, 5, 3, 172]
abbrev dktL_law_33 : List UInt8 := dkwL_law_33 ++ dktL_law_34
def dkwL_law_32 : List UInt8 := [184, 0, 130, 54, 6, 44, 42, 21, 5, 4, 96, 46, 182, 0, 132, 54, 7, 44, 182, 0, 99, 21, 6]
abbrev dktL_law_32 : List UInt8 := dkwL_law_32 ++ dktL_law_33
def dkwL_law_31 : List UInt8 := [3, 47, 21, 7, 133, 148, 153, 0, 5, 3, 172, 167, 3, 95, 43, 42, 21, 5, 4, 96, 46, 45]
abbrev dktL_law_31 : List UInt8 := dkwL_law_31 ++ dktL_law_32
def dkwL_law_30 : List UInt8 := [96, 46, 182, 0, 129, 54, 7, 44, 182, 0, 99, 21, 6, 159, 0, 5, 3, 172, 21, 6, 154, 0, 15, 45]
abbrev dktL_law_30 : List UInt8 := dkwL_law_30 ++ dktL_law_31
def dkwL_law_29 : List UInt8 := [46, 42, 21, 5, 5, 96, 46, 45, 184, 0, 127, 54, 6, 44, 42, 21, 5, 4, 96, 46, 42, 21, 5, 5]
abbrev dktL_law_29 : List UInt8 := dkwL_law_29 ++ dktL_law_30
def dkwL_law_28 : List UInt8 := [154, 0, 15, 45, 3, 47, 21, 7, 133, 148, 153, 0, 5, 3, 172, 167, 3, 163, 43, 42, 21, 5, 4, 96]
abbrev dktL_law_28 : List UInt8 := dkwL_law_28 ++ dktL_law_29
def dkwL_law_27 : List UInt8 := [21, 5, 4, 96, 46, 182, 0, 126, 54, 7, 44, 182, 0, 99, 21, 6, 159, 0, 5, 3, 172, 21, 6]
abbrev dktL_law_27 : List UInt8 := dkwL_law_27 ++ dktL_law_28
def dkwL_law_26 : List UInt8 := [153, 0, 5, 3, 172, 167, 3, 219, 43, 42, 21, 5, 4, 96, 46, 45, 184, 0, 123, 54, 6, 44, 42]
abbrev dktL_law_26 : List UInt8 := dkwL_law_26 ++ dktL_law_27
def dkwL_law_25 : List UInt8 := [182, 0, 99, 21, 6, 159, 0, 5, 3, 172, 21, 6, 154, 0, 15, 45, 3, 47, 21, 7, 133, 148]
abbrev dktL_law_25 : List UInt8 := dkwL_law_25 ++ dktL_law_26
def dkwL_law_24 : List UInt8 := [5, 96, 46, 42, 21, 5, 6, 96, 46, 153, 0, 7, 4, 167, 0, 4, 3, 182, 0, 122, 54, 7, 44]
abbrev dktL_law_24 : List UInt8 := dkwL_law_24 ++ dktL_law_25
def dkwL_law_23 : List UInt8 := [153, 0, 7, 4, 167, 0, 4, 3, 45, 184, 0, 119, 54, 6, 44, 42, 21, 5, 4, 96, 46, 42, 21, 5]
abbrev dktL_law_23 : List UInt8 := dkwL_law_23 ++ dktL_law_24
def dkwL_law_22 : List UInt8 := [167, 4, 59, 43, 42, 21, 5, 4, 96, 46, 42, 21, 5, 5, 96, 46, 42, 21, 5, 6, 96, 46]
abbrev dktL_law_22 : List UInt8 := dkwL_law_22 ++ dktL_law_23
def dkwL_law_21 : List UInt8 := [159, 0, 5, 3, 172, 21, 6, 154, 0, 15, 45, 3, 47, 21, 7, 133, 148, 153, 0, 5, 3, 172]
abbrev dktL_law_21 : List UInt8 := dkwL_law_21 ++ dktL_law_22
def dkwL_law_20 : List UInt8 := [21, 5, 4, 96, 46, 42, 21, 5, 5, 96, 46, 182, 0, 118, 54, 7, 44, 182, 0, 99, 21, 6]
abbrev dktL_law_20 : List UInt8 := dkwL_law_20 ++ dktL_law_21
def dkwL_law_19 : List UInt8 := [167, 4, 127, 43, 42, 21, 5, 4, 96, 46, 42, 21, 5, 5, 96, 46, 45, 184, 0, 116, 54, 6, 44, 42]
abbrev dktL_law_19 : List UInt8 := dkwL_law_19 ++ dktL_law_20
def dkwL_law_18 : List UInt8 := [159, 0, 5, 3, 172, 21, 6, 154, 0, 15, 45, 3, 47, 21, 7, 133, 148, 153, 0, 5, 3, 172]
abbrev dktL_law_18 : List UInt8 := dkwL_law_18 ++ dktL_law_19
def dkwL_law_17 : List UInt8 := [21, 5, 4, 96, 46, 42, 21, 5, 5, 96, 46, 182, 0, 115, 54, 7, 44, 182, 0, 99, 21, 6]
abbrev dktL_law_17 : List UInt8 := dkwL_law_17 ++ dktL_law_18
def dkwL_law_16 : List UInt8 := [167, 4, 195, 43, 42, 21, 5, 4, 96, 46, 42, 21, 5, 5, 96, 46, 45, 184, 0, 113, 54, 6, 44, 42]
abbrev dktL_law_16 : List UInt8 := dkwL_law_16 ++ dktL_law_17
def dkwL_law_15 : List UInt8 := [159, 0, 5, 3, 172, 21, 6, 154, 0, 15, 45, 3, 47, 21, 7, 133, 148, 153, 0, 5, 3, 172]
abbrev dktL_law_15 : List UInt8 := dkwL_law_15 ++ dktL_law_16
def dkwL_law_14 : List UInt8 := [21, 5, 5, 96, 46, 42, 21, 5, 6, 96, 46, 182, 0, 112, 54, 7, 44, 182, 0, 99, 21, 6]
abbrev dktL_law_14 : List UInt8 := dkwL_law_14 ++ dktL_law_15
def dkwL_law_13 : List UInt8 := [5, 96, 46, 42, 21, 5, 6, 96, 46, 45, 184, 0, 109, 54, 6, 44, 42, 21, 5, 4, 96, 46, 42]
abbrev dktL_law_13 : List UInt8 := dkwL_law_13 ++ dktL_law_14
def dkwL_law_12 : List UInt8 := [10, 167, 0, 4, 9, 148, 153, 0, 5, 3, 172, 167, 5, 19, 43, 42, 21, 5, 4, 96, 46, 42, 21, 5]
abbrev dktL_law_12 : List UInt8 := dkwL_law_12 ++ dktL_law_13
def dkwL_law_11 : List UInt8 := [44, 182, 0, 99, 21, 6, 159, 0, 5, 3, 172, 21, 6, 154, 0, 22, 45, 3, 47, 21, 7, 153, 0, 7]
abbrev dktL_law_11 : List UInt8 := dkwL_law_11 ++ dktL_law_12
def dkwL_law_10 : List UInt8 := [21, 5, 4, 96, 46, 42, 21, 5, 5, 96, 46, 153, 0, 7, 4, 167, 0, 4, 3, 182, 0, 108, 54, 7]
abbrev dktL_law_10 : List UInt8 := dkwL_law_10 ++ dktL_law_11
def dkwL_law_9 : List UInt8 := [46, 42, 21, 5, 5, 96, 46, 153, 0, 7, 4, 167, 0, 4, 3, 45, 184, 0, 105, 54, 6, 44, 42]
abbrev dktL_law_9 : List UInt8 := dkwL_law_9 ++ dktL_law_10
def dkwL_law_8 : List UInt8 := [154, 0, 15, 45, 3, 47, 21, 7, 133, 148, 153, 0, 5, 3, 172, 167, 5, 110, 43, 42, 21, 5, 4, 96]
abbrev dktL_law_8 : List UInt8 := dkwL_law_8 ++ dktL_law_9
def dkwL_law_7 : List UInt8 := [21, 5, 5, 96, 46, 182, 0, 104, 54, 7, 44, 182, 0, 99, 21, 6, 159, 0, 5, 3, 172, 21, 6]
abbrev dktL_law_7 : List UInt8 := dkwL_law_7 ++ dktL_law_8
def dkwL_law_6 : List UInt8 := [4, 96, 46, 42, 21, 5, 5, 96, 46, 45, 184, 0, 102, 54, 6, 44, 42, 21, 5, 4, 96, 46, 42]
abbrev dktL_law_6 : List UInt8 := dkwL_law_6 ++ dktL_law_7
def dkwL_law_5 : List UInt8 := [21, 6, 154, 0, 15, 45, 3, 47, 21, 7, 133, 148, 153, 0, 5, 3, 172, 167, 5, 178, 43, 42, 21, 5]
abbrev dktL_law_5 : List UInt8 := dkwL_law_5 ++ dktL_law_6
def dkwL_law_4 : List UInt8 := [96, 46, 42, 21, 5, 5, 96, 46, 182, 0, 98, 54, 7, 44, 182, 0, 99, 21, 6, 159, 0, 5, 3, 172]
abbrev dktL_law_4 : List UInt8 := dkwL_law_4 ++ dktL_law_5
def dkwL_law_3 : List UInt8 := [43, 42, 21, 5, 4, 96, 46, 42, 21, 5, 5, 96, 46, 45, 184, 0, 93, 54, 6, 44, 42, 21, 5, 4]
abbrev dktL_law_3 : List UInt8 := dkwL_law_3 ++ dktL_law_4
def dkwL_law_2 : List UInt8 := [170, 0, 0, 0, 0, 0, 6, 111, 0, 0, 0, 0, 0, 0, 0, 26, 0, 0, 0, 124, 0, 0, 0, 192, 0, 0, 1, 4, 0, 0, 1, 95, 0, 0, 1, 175, 0, 0, 1, 243, 0, 0, 2, 55, 0, 0, 2, 151, 0, 0, 2, 207, 0, 0, 3, 19, 0, 0, 3, 75, 0, 0, 3, 131, 0, 0, 3, 199, 0, 0, 3, 254, 0, 0, 4, 66, 0, 0, 4, 121, 0, 0, 4, 189, 0, 0, 5, 10, 0, 0, 5, 23, 0, 0, 5, 78, 0, 0, 5, 146, 0, 0, 5, 159, 0, 0, 5, 227, 0, 0, 6, 27, 0, 0, 6, 40, 0, 0, 6, 53, 0, 0, 6, 97]
abbrev dktL_law_2 : List UInt8 := dkwL_law_2 ++ dktL_law_3
def dkwL_law_1 : List UInt8 := [58, 4, 3, 54, 5, 21, 5, 42, 190, 7, 100, 163, 6, 127, 42, 21, 5, 46, 16, 31, 126]
abbrev dktL_law_1 : List UInt8 := dkwL_law_1 ++ dktL_law_2
def dkwL_law_0 : List UInt8 := [187, 0, 8, 89, 183, 0, 89, 76, 187, 0, 90, 89, 183, 0, 92, 77, 4, 188, 11, 78, 4, 188, 7]
abbrev dktL_law_0 : List UInt8 := dkwL_law_0 ++ dktL_law_1
theorem dksL_law_0 : cL_law.data.toList.drop 0 = dktL_law_0 := by decide +kernel
theorem dksL_law_1 : cL_law.data.toList.drop 23 = dktL_law_1 := dk_seg dksL_law_0 23 rfl rfl
theorem dksL_law_2 : cL_law.data.toList.drop 44 = dktL_law_2 := dk_seg dksL_law_1 21 rfl rfl
theorem dksL_law_3 : cL_law.data.toList.drop 168 = dktL_law_3 := dk_seg dksL_law_2 124 rfl rfl
theorem dksL_law_4 : cL_law.data.toList.drop 192 = dktL_law_4 := dk_seg dksL_law_3 24 rfl rfl
theorem dksL_law_5 : cL_law.data.toList.drop 216 = dktL_law_5 := dk_seg dksL_law_4 24 rfl rfl
theorem dksL_law_6 : cL_law.data.toList.drop 240 = dktL_law_6 := dk_seg dksL_law_5 24 rfl rfl
theorem dksL_law_7 : cL_law.data.toList.drop 263 = dktL_law_7 := dk_seg dksL_law_6 23 rfl rfl
theorem dksL_law_8 : cL_law.data.toList.drop 286 = dktL_law_8 := dk_seg dksL_law_7 23 rfl rfl
theorem dksL_law_9 : cL_law.data.toList.drop 310 = dktL_law_9 := dk_seg dksL_law_8 24 rfl rfl
theorem dksL_law_10 : cL_law.data.toList.drop 333 = dktL_law_10 := dk_seg dksL_law_9 23 rfl rfl
theorem dksL_law_11 : cL_law.data.toList.drop 357 = dktL_law_11 := dk_seg dksL_law_10 24 rfl rfl
theorem dksL_law_12 : cL_law.data.toList.drop 381 = dktL_law_12 := dk_seg dksL_law_11 24 rfl rfl
theorem dksL_law_13 : cL_law.data.toList.drop 405 = dktL_law_13 := dk_seg dksL_law_12 24 rfl rfl
theorem dksL_law_14 : cL_law.data.toList.drop 428 = dktL_law_14 := dk_seg dksL_law_13 23 rfl rfl
theorem dksL_law_15 : cL_law.data.toList.drop 450 = dktL_law_15 := dk_seg dksL_law_14 22 rfl rfl
theorem dksL_law_16 : cL_law.data.toList.drop 472 = dktL_law_16 := dk_seg dksL_law_15 22 rfl rfl
theorem dksL_law_17 : cL_law.data.toList.drop 496 = dktL_law_17 := dk_seg dksL_law_16 24 rfl rfl
theorem dksL_law_18 : cL_law.data.toList.drop 518 = dktL_law_18 := dk_seg dksL_law_17 22 rfl rfl
theorem dksL_law_19 : cL_law.data.toList.drop 540 = dktL_law_19 := dk_seg dksL_law_18 22 rfl rfl
theorem dksL_law_20 : cL_law.data.toList.drop 564 = dktL_law_20 := dk_seg dksL_law_19 24 rfl rfl
theorem dksL_law_21 : cL_law.data.toList.drop 586 = dktL_law_21 := dk_seg dksL_law_20 22 rfl rfl
theorem dksL_law_22 : cL_law.data.toList.drop 608 = dktL_law_22 := dk_seg dksL_law_21 22 rfl rfl
theorem dksL_law_23 : cL_law.data.toList.drop 630 = dktL_law_23 := dk_seg dksL_law_22 22 rfl rfl
theorem dksL_law_24 : cL_law.data.toList.drop 654 = dktL_law_24 := dk_seg dksL_law_23 24 rfl rfl
theorem dksL_law_25 : cL_law.data.toList.drop 677 = dktL_law_25 := dk_seg dksL_law_24 23 rfl rfl
theorem dksL_law_26 : cL_law.data.toList.drop 699 = dktL_law_26 := dk_seg dksL_law_25 22 rfl rfl
theorem dksL_law_27 : cL_law.data.toList.drop 722 = dktL_law_27 := dk_seg dksL_law_26 23 rfl rfl
theorem dksL_law_28 : cL_law.data.toList.drop 745 = dktL_law_28 := dk_seg dksL_law_27 23 rfl rfl
theorem dksL_law_29 : cL_law.data.toList.drop 769 = dktL_law_29 := dk_seg dksL_law_28 24 rfl rfl
theorem dksL_law_30 : cL_law.data.toList.drop 793 = dktL_law_30 := dk_seg dksL_law_29 24 rfl rfl
theorem dksL_law_31 : cL_law.data.toList.drop 817 = dktL_law_31 := dk_seg dksL_law_30 24 rfl rfl
theorem dksL_law_32 : cL_law.data.toList.drop 839 = dktL_law_32 := dk_seg dksL_law_31 22 rfl rfl
theorem dksL_law_33 : cL_law.data.toList.drop 862 = dktL_law_33 := dk_seg dksL_law_32 23 rfl rfl
theorem dksL_law_34 : cL_law.data.toList.drop 884 = dktL_law_34 := dk_seg dksL_law_33 22 rfl rfl
theorem dksL_law_35 : cL_law.data.toList.drop 907 = dktL_law_35 := dk_seg dksL_law_34 23 rfl rfl
theorem dksL_law_36 : cL_law.data.toList.drop 931 = dktL_law_36 := dk_seg dksL_law_35 24 rfl rfl
theorem dksL_law_37 : cL_law.data.toList.drop 955 = dktL_law_37 := dk_seg dksL_law_36 24 rfl rfl
theorem dksL_law_38 : cL_law.data.toList.drop 978 = dktL_law_38 := dk_seg dksL_law_37 23 rfl rfl
theorem dksL_law_39 : cL_law.data.toList.drop 1002 = dktL_law_39 := dk_seg dksL_law_38 24 rfl rfl
theorem dksL_law_40 : cL_law.data.toList.drop 1026 = dktL_law_40 := dk_seg dksL_law_39 24 rfl rfl
theorem dksL_law_41 : cL_law.data.toList.drop 1049 = dktL_law_41 := dk_seg dksL_law_40 23 rfl rfl
theorem dksL_law_42 : cL_law.data.toList.drop 1073 = dktL_law_42 := dk_seg dksL_law_41 24 rfl rfl
theorem dksL_law_43 : cL_law.data.toList.drop 1097 = dktL_law_43 := dk_seg dksL_law_42 24 rfl rfl
theorem dksL_law_44 : cL_law.data.toList.drop 1121 = dktL_law_44 := dk_seg dksL_law_43 24 rfl rfl
theorem dksL_law_45 : cL_law.data.toList.drop 1145 = dktL_law_45 := dk_seg dksL_law_44 24 rfl rfl
theorem dksL_law_46 : cL_law.data.toList.drop 1169 = dktL_law_46 := dk_seg dksL_law_45 24 rfl rfl
theorem dksL_law_47 : cL_law.data.toList.drop 1193 = dktL_law_47 := dk_seg dksL_law_46 24 rfl rfl
theorem dksL_law_48 : cL_law.data.toList.drop 1216 = dktL_law_48 := dk_seg dksL_law_47 23 rfl rfl
theorem dksL_law_49 : cL_law.data.toList.drop 1239 = dktL_law_49 := dk_seg dksL_law_48 23 rfl rfl
theorem dksL_law_50 : cL_law.data.toList.drop 1263 = dktL_law_50 := dk_seg dksL_law_49 24 rfl rfl
theorem dksL_law_51 : cL_law.data.toList.drop 1287 = dktL_law_51 := dk_seg dksL_law_50 24 rfl rfl
theorem dksL_law_52 : cL_law.data.toList.drop 1311 = dktL_law_52 := dk_seg dksL_law_51 24 rfl rfl
theorem dksL_law_53 : cL_law.data.toList.drop 1335 = dktL_law_53 := dk_seg dksL_law_52 24 rfl rfl
theorem dksL_law_54 : cL_law.data.toList.drop 1358 = dktL_law_54 := dk_seg dksL_law_53 23 rfl rfl
theorem dksL_law_55 : cL_law.data.toList.drop 1382 = dktL_law_55 := dk_seg dksL_law_54 24 rfl rfl
theorem dksL_law_56 : cL_law.data.toList.drop 1406 = dktL_law_56 := dk_seg dksL_law_55 24 rfl rfl
theorem dksL_law_57 : cL_law.data.toList.drop 1429 = dktL_law_57 := dk_seg dksL_law_56 23 rfl rfl
theorem dksL_law_58 : cL_law.data.toList.drop 1452 = dktL_law_58 := dk_seg dksL_law_57 23 rfl rfl
theorem dksL_law_59 : cL_law.data.toList.drop 1475 = dktL_law_59 := dk_seg dksL_law_58 23 rfl rfl
theorem dksL_law_60 : cL_law.data.toList.drop 1497 = dktL_law_60 := dk_seg dksL_law_59 22 rfl rfl
theorem dksL_law_61 : cL_law.data.toList.drop 1521 = dktL_law_61 := dk_seg dksL_law_60 24 rfl rfl
theorem dksL_law_62 : cL_law.data.toList.drop 1543 = dktL_law_62 := dk_seg dksL_law_61 22 rfl rfl
theorem dksL_law_63 : cL_law.data.toList.drop 1566 = dktL_law_63 := dk_seg dksL_law_62 23 rfl rfl
theorem dksL_law_64 : cL_law.data.toList.drop 1589 = dktL_law_64 := dk_seg dksL_law_63 23 rfl rfl
theorem dksL_law_65 : cL_law.data.toList.drop 1612 = dktL_law_65 := dk_seg dksL_law_64 23 rfl rfl
theorem dksL_law_66 : cL_law.data.toList.drop 1635 = dktL_law_66 := dk_seg dksL_law_65 23 rfl rfl
theorem dksL_law_67 : cL_law.data.toList.drop 1659 = dktL_law_67 := dk_seg dksL_law_66 24 rfl rfl
theorem dksL_law_68 : cL_law.data.toList.drop 1682 = dktL_law_68 := dk_seg dksL_law_67 23 rfl rfl
theorem dL_law_0 : decode cL_law 0 = .ok (.new 8, 3) := dk_187 0 8 (dk_at dksL_law_0 0 rfl rfl)
theorem dL_law_3 : decode cL_law 3 = .ok (.dup, 1) := dk_89 (dk_at dksL_law_0 3 rfl rfl)
theorem dL_law_4 : decode cL_law 4 = .ok (.invokespecial 89, 3) := dk_183 0 89 (dk_at dksL_law_0 4 rfl rfl)
theorem dL_law_7 : decode cL_law 7 = .ok (.astore_n 1, 1) := dk_76 (dk_at dksL_law_0 7 rfl rfl)
theorem dL_law_8 : decode cL_law 8 = .ok (.new 90, 3) := dk_187 0 90 (dk_at dksL_law_0 8 rfl rfl)
theorem dL_law_11 : decode cL_law 11 = .ok (.dup, 1) := dk_89 (dk_at dksL_law_0 11 rfl rfl)
theorem dL_law_12 : decode cL_law 12 = .ok (.invokespecial 92, 3) := dk_183 0 92 (dk_at dksL_law_0 12 rfl rfl)
theorem dL_law_15 : decode cL_law 15 = .ok (.astore_n 2, 1) := dk_77 (dk_at dksL_law_0 15 rfl rfl)
theorem dL_law_16 : decode cL_law 16 = .ok (.iconst 1, 1) := dk_4 (dk_at dksL_law_0 16 rfl rfl)
theorem dL_law_17 : decode cL_law 17 = .ok (.newarray .long, 2) := dk_188_11 (dk_at dksL_law_0 17 rfl rfl)
theorem dL_law_19 : decode cL_law 19 = .ok (.astore_n 3, 1) := dk_78 (dk_at dksL_law_0 19 rfl rfl)
theorem dL_law_20 : decode cL_law 20 = .ok (.iconst 1, 1) := dk_4 (dk_at dksL_law_0 20 rfl rfl)
theorem dL_law_21 : decode cL_law 21 = .ok (.newarray .double, 2) := dk_188_7 (dk_at dksL_law_0 21 rfl rfl)
theorem dL_law_23 : decode cL_law 23 = .ok (.astore 4, 2) := dk_58 4 (dk_at dksL_law_1 0 rfl rfl)
theorem dL_law_25 : decode cL_law 25 = .ok (.iconst 0, 1) := dk_3 (dk_at dksL_law_1 2 rfl rfl)
theorem dL_law_26 : decode cL_law 26 = .ok (.istore 5, 2) := dk_54 5 (dk_at dksL_law_1 3 rfl rfl)
theorem dL_law_28 : decode cL_law 28 = .ok (.iload 5, 2) := dk_21 5 (dk_at dksL_law_1 5 rfl rfl)
theorem dL_law_30 : decode cL_law 30 = .ok (.aload_n 0, 1) := dk_42 (dk_at dksL_law_1 7 rfl rfl)
theorem dL_law_31 : decode cL_law 31 = .ok (.arraylength, 1) := dk_190 (dk_at dksL_law_1 8 rfl rfl)
theorem dL_law_32 : decode cL_law 32 = .ok (.iconst 4, 1) := dk_7 (dk_at dksL_law_1 9 rfl rfl)
theorem dL_law_33 : decode cL_law 33 = .ok (.isub, 1) := dk_100 (dk_at dksL_law_1 10 rfl rfl)
theorem dL_law_34 : decode cL_law 34 = .ok (.if_icmp .gt 1663, 3) := dk_163 6 127 (dk_at dksL_law_1 11 rfl rfl)
theorem dL_law_37 : decode cL_law 37 = .ok (.aload_n 0, 1) := dk_42 (dk_at dksL_law_1 14 rfl rfl)
theorem dL_law_38 : decode cL_law 38 = .ok (.iload 5, 2) := dk_21 5 (dk_at dksL_law_1 15 rfl rfl)
theorem dL_law_40 : decode cL_law 40 = .ok (.iaload, 1) := dk_46 (dk_at dksL_law_1 17 rfl rfl)
theorem dL_law_41 : decode cL_law 41 = .ok (.bipush 31, 2) := dk_16 31 (dk_at dksL_law_1 18 rfl rfl)
theorem dL_law_43 : decode cL_law 43 = .ok (.iand, 1) := dk_126 (dk_at dksL_law_1 20 rfl rfl)
theorem dL_law_44 : decode cL_law 44 = .ok (.tableswitch 1647 0 26 #[124, 192, 260, 351, 431, 499, 567, 663, 719, 787, 843, 899, 967, 1022, 1090, 1145, 1213, 1290, 1303, 1358, 1426, 1439, 1507, 1563, 1576, 1589, 1633], 124) := by decide +kernel
theorem dL_law_168 : decode cL_law 168 = .ok (.aload_n 1, 1) := dk_43 (dk_at dksL_law_3 0 rfl rfl)
theorem dL_law_169 : decode cL_law 169 = .ok (.aload_n 0, 1) := dk_42 (dk_at dksL_law_3 1 rfl rfl)
theorem dL_law_170 : decode cL_law 170 = .ok (.iload 5, 2) := dk_21 5 (dk_at dksL_law_3 2 rfl rfl)
theorem dL_law_172 : decode cL_law 172 = .ok (.iconst 1, 1) := dk_4 (dk_at dksL_law_3 4 rfl rfl)
theorem dL_law_173 : decode cL_law 173 = .ok (.iadd, 1) := dk_96 (dk_at dksL_law_3 5 rfl rfl)
theorem dL_law_174 : decode cL_law 174 = .ok (.iaload, 1) := dk_46 (dk_at dksL_law_3 6 rfl rfl)
theorem dL_law_175 : decode cL_law 175 = .ok (.aload_n 0, 1) := dk_42 (dk_at dksL_law_3 7 rfl rfl)
theorem dL_law_176 : decode cL_law 176 = .ok (.iload 5, 2) := dk_21 5 (dk_at dksL_law_3 8 rfl rfl)
theorem dL_law_178 : decode cL_law 178 = .ok (.iconst 2, 1) := dk_5 (dk_at dksL_law_3 10 rfl rfl)
theorem dL_law_179 : decode cL_law 179 = .ok (.iadd, 1) := dk_96 (dk_at dksL_law_3 11 rfl rfl)
theorem dL_law_180 : decode cL_law 180 = .ok (.iaload, 1) := dk_46 (dk_at dksL_law_3 12 rfl rfl)
theorem dL_law_181 : decode cL_law 181 = .ok (.aload_n 3, 1) := dk_45 (dk_at dksL_law_3 13 rfl rfl)
theorem dL_law_182 : decode cL_law 182 = .ok (.invokestatic 93, 3) := dk_184 0 93 (dk_at dksL_law_3 14 rfl rfl)
theorem dL_law_185 : decode cL_law 185 = .ok (.istore 6, 2) := dk_54 6 (dk_at dksL_law_3 17 rfl rfl)
theorem dL_law_187 : decode cL_law 187 = .ok (.aload_n 2, 1) := dk_44 (dk_at dksL_law_3 19 rfl rfl)
theorem dL_law_188 : decode cL_law 188 = .ok (.aload_n 0, 1) := dk_42 (dk_at dksL_law_3 20 rfl rfl)
theorem dL_law_189 : decode cL_law 189 = .ok (.iload 5, 2) := dk_21 5 (dk_at dksL_law_3 21 rfl rfl)
theorem dL_law_191 : decode cL_law 191 = .ok (.iconst 1, 1) := dk_4 (dk_at dksL_law_3 23 rfl rfl)
theorem dL_law_192 : decode cL_law 192 = .ok (.iadd, 1) := dk_96 (dk_at dksL_law_4 0 rfl rfl)
theorem dL_law_193 : decode cL_law 193 = .ok (.iaload, 1) := dk_46 (dk_at dksL_law_4 1 rfl rfl)
theorem dL_law_194 : decode cL_law 194 = .ok (.aload_n 0, 1) := dk_42 (dk_at dksL_law_4 2 rfl rfl)
theorem dL_law_195 : decode cL_law 195 = .ok (.iload 5, 2) := dk_21 5 (dk_at dksL_law_4 3 rfl rfl)
theorem dL_law_197 : decode cL_law 197 = .ok (.iconst 2, 1) := dk_5 (dk_at dksL_law_4 5 rfl rfl)
theorem dL_law_198 : decode cL_law 198 = .ok (.iadd, 1) := dk_96 (dk_at dksL_law_4 6 rfl rfl)
theorem dL_law_199 : decode cL_law 199 = .ok (.iaload, 1) := dk_46 (dk_at dksL_law_4 7 rfl rfl)
theorem dL_law_200 : decode cL_law 200 = .ok (.invokevirtual 98, 3) := dk_182 0 98 (dk_at dksL_law_4 8 rfl rfl)
theorem dL_law_203 : decode cL_law 203 = .ok (.istore 7, 2) := dk_54 7 (dk_at dksL_law_4 11 rfl rfl)
theorem dL_law_205 : decode cL_law 205 = .ok (.aload_n 2, 1) := dk_44 (dk_at dksL_law_4 13 rfl rfl)
theorem dL_law_206 : decode cL_law 206 = .ok (.invokevirtual 99, 3) := dk_182 0 99 (dk_at dksL_law_4 14 rfl rfl)
theorem dL_law_209 : decode cL_law 209 = .ok (.iload 6, 2) := dk_21 6 (dk_at dksL_law_4 17 rfl rfl)
theorem dL_law_211 : decode cL_law 211 = .ok (.if_icmp .eq 5, 3) := dk_159 0 5 (dk_at dksL_law_4 19 rfl rfl)
theorem dL_law_214 : decode cL_law 214 = .ok (.iconst 0, 1) := dk_3 (dk_at dksL_law_4 22 rfl rfl)
theorem dL_law_215 : decode cL_law 215 = .ok (.ireturn, 1) := dk_172 (dk_at dksL_law_4 23 rfl rfl)
theorem dL_law_216 : decode cL_law 216 = .ok (.iload 6, 2) := dk_21 6 (dk_at dksL_law_5 0 rfl rfl)
theorem dL_law_218 : decode cL_law 218 = .ok (.ifCond .ne 15, 3) := dk_154 0 15 (dk_at dksL_law_5 2 rfl rfl)
theorem dL_law_221 : decode cL_law 221 = .ok (.aload_n 3, 1) := dk_45 (dk_at dksL_law_5 5 rfl rfl)
theorem dL_law_222 : decode cL_law 222 = .ok (.iconst 0, 1) := dk_3 (dk_at dksL_law_5 6 rfl rfl)
theorem dL_law_223 : decode cL_law 223 = .ok (.laload, 1) := dk_47 (dk_at dksL_law_5 7 rfl rfl)
theorem dL_law_224 : decode cL_law 224 = .ok (.iload 7, 2) := dk_21 7 (dk_at dksL_law_5 8 rfl rfl)
theorem dL_law_226 : decode cL_law 226 = .ok (.i2l, 1) := dk_133 (dk_at dksL_law_5 10 rfl rfl)
theorem dL_law_227 : decode cL_law 227 = .ok (.lcmp, 1) := dk_148 (dk_at dksL_law_5 11 rfl rfl)
theorem dL_law_228 : decode cL_law 228 = .ok (.ifCond .eq 5, 3) := dk_153 0 5 (dk_at dksL_law_5 12 rfl rfl)
theorem dL_law_231 : decode cL_law 231 = .ok (.iconst 0, 1) := dk_3 (dk_at dksL_law_5 15 rfl rfl)
theorem dL_law_232 : decode cL_law 232 = .ok (.ireturn, 1) := dk_172 (dk_at dksL_law_5 16 rfl rfl)
theorem dL_law_233 : decode cL_law 233 = .ok (.goto 1458, 3) := dk_167 5 178 (dk_at dksL_law_5 17 rfl rfl)
theorem dL_law_236 : decode cL_law 236 = .ok (.aload_n 1, 1) := dk_43 (dk_at dksL_law_5 20 rfl rfl)
theorem dL_law_237 : decode cL_law 237 = .ok (.aload_n 0, 1) := dk_42 (dk_at dksL_law_5 21 rfl rfl)
theorem dL_law_238 : decode cL_law 238 = .ok (.iload 5, 2) := dk_21 5 (dk_at dksL_law_5 22 rfl rfl)
theorem dL_law_240 : decode cL_law 240 = .ok (.iconst 1, 1) := dk_4 (dk_at dksL_law_6 0 rfl rfl)
theorem dL_law_241 : decode cL_law 241 = .ok (.iadd, 1) := dk_96 (dk_at dksL_law_6 1 rfl rfl)
theorem dL_law_242 : decode cL_law 242 = .ok (.iaload, 1) := dk_46 (dk_at dksL_law_6 2 rfl rfl)
theorem dL_law_243 : decode cL_law 243 = .ok (.aload_n 0, 1) := dk_42 (dk_at dksL_law_6 3 rfl rfl)
theorem dL_law_244 : decode cL_law 244 = .ok (.iload 5, 2) := dk_21 5 (dk_at dksL_law_6 4 rfl rfl)
theorem dL_law_246 : decode cL_law 246 = .ok (.iconst 2, 1) := dk_5 (dk_at dksL_law_6 6 rfl rfl)
theorem dL_law_247 : decode cL_law 247 = .ok (.iadd, 1) := dk_96 (dk_at dksL_law_6 7 rfl rfl)
theorem dL_law_248 : decode cL_law 248 = .ok (.iaload, 1) := dk_46 (dk_at dksL_law_6 8 rfl rfl)
theorem dL_law_249 : decode cL_law 249 = .ok (.aload_n 3, 1) := dk_45 (dk_at dksL_law_6 9 rfl rfl)
theorem dL_law_250 : decode cL_law 250 = .ok (.invokestatic 102, 3) := dk_184 0 102 (dk_at dksL_law_6 10 rfl rfl)
theorem dL_law_253 : decode cL_law 253 = .ok (.istore 6, 2) := dk_54 6 (dk_at dksL_law_6 13 rfl rfl)
theorem dL_law_255 : decode cL_law 255 = .ok (.aload_n 2, 1) := dk_44 (dk_at dksL_law_6 15 rfl rfl)
theorem dL_law_256 : decode cL_law 256 = .ok (.aload_n 0, 1) := dk_42 (dk_at dksL_law_6 16 rfl rfl)
theorem dL_law_257 : decode cL_law 257 = .ok (.iload 5, 2) := dk_21 5 (dk_at dksL_law_6 17 rfl rfl)
theorem dL_law_259 : decode cL_law 259 = .ok (.iconst 1, 1) := dk_4 (dk_at dksL_law_6 19 rfl rfl)
theorem dL_law_260 : decode cL_law 260 = .ok (.iadd, 1) := dk_96 (dk_at dksL_law_6 20 rfl rfl)
theorem dL_law_261 : decode cL_law 261 = .ok (.iaload, 1) := dk_46 (dk_at dksL_law_6 21 rfl rfl)
theorem dL_law_262 : decode cL_law 262 = .ok (.aload_n 0, 1) := dk_42 (dk_at dksL_law_6 22 rfl rfl)
theorem dL_law_263 : decode cL_law 263 = .ok (.iload 5, 2) := dk_21 5 (dk_at dksL_law_7 0 rfl rfl)
theorem dL_law_265 : decode cL_law 265 = .ok (.iconst 2, 1) := dk_5 (dk_at dksL_law_7 2 rfl rfl)
theorem dL_law_266 : decode cL_law 266 = .ok (.iadd, 1) := dk_96 (dk_at dksL_law_7 3 rfl rfl)
theorem dL_law_267 : decode cL_law 267 = .ok (.iaload, 1) := dk_46 (dk_at dksL_law_7 4 rfl rfl)
theorem dL_law_268 : decode cL_law 268 = .ok (.invokevirtual 104, 3) := dk_182 0 104 (dk_at dksL_law_7 5 rfl rfl)
theorem dL_law_271 : decode cL_law 271 = .ok (.istore 7, 2) := dk_54 7 (dk_at dksL_law_7 8 rfl rfl)
theorem dL_law_273 : decode cL_law 273 = .ok (.aload_n 2, 1) := dk_44 (dk_at dksL_law_7 10 rfl rfl)
theorem dL_law_274 : decode cL_law 274 = .ok (.invokevirtual 99, 3) := dk_182 0 99 (dk_at dksL_law_7 11 rfl rfl)
theorem dL_law_277 : decode cL_law 277 = .ok (.iload 6, 2) := dk_21 6 (dk_at dksL_law_7 14 rfl rfl)
theorem dL_law_279 : decode cL_law 279 = .ok (.if_icmp .eq 5, 3) := dk_159 0 5 (dk_at dksL_law_7 16 rfl rfl)
theorem dL_law_282 : decode cL_law 282 = .ok (.iconst 0, 1) := dk_3 (dk_at dksL_law_7 19 rfl rfl)
theorem dL_law_283 : decode cL_law 283 = .ok (.ireturn, 1) := dk_172 (dk_at dksL_law_7 20 rfl rfl)
theorem dL_law_284 : decode cL_law 284 = .ok (.iload 6, 2) := dk_21 6 (dk_at dksL_law_7 21 rfl rfl)
theorem dL_law_286 : decode cL_law 286 = .ok (.ifCond .ne 15, 3) := dk_154 0 15 (dk_at dksL_law_8 0 rfl rfl)
theorem dL_law_289 : decode cL_law 289 = .ok (.aload_n 3, 1) := dk_45 (dk_at dksL_law_8 3 rfl rfl)
theorem dL_law_290 : decode cL_law 290 = .ok (.iconst 0, 1) := dk_3 (dk_at dksL_law_8 4 rfl rfl)
theorem dL_law_291 : decode cL_law 291 = .ok (.laload, 1) := dk_47 (dk_at dksL_law_8 5 rfl rfl)
theorem dL_law_292 : decode cL_law 292 = .ok (.iload 7, 2) := dk_21 7 (dk_at dksL_law_8 6 rfl rfl)
theorem dL_law_294 : decode cL_law 294 = .ok (.i2l, 1) := dk_133 (dk_at dksL_law_8 8 rfl rfl)
theorem dL_law_295 : decode cL_law 295 = .ok (.lcmp, 1) := dk_148 (dk_at dksL_law_8 9 rfl rfl)
theorem dL_law_296 : decode cL_law 296 = .ok (.ifCond .eq 5, 3) := dk_153 0 5 (dk_at dksL_law_8 10 rfl rfl)
theorem dL_law_299 : decode cL_law 299 = .ok (.iconst 0, 1) := dk_3 (dk_at dksL_law_8 13 rfl rfl)
theorem dL_law_300 : decode cL_law 300 = .ok (.ireturn, 1) := dk_172 (dk_at dksL_law_8 14 rfl rfl)
theorem dL_law_301 : decode cL_law 301 = .ok (.goto 1390, 3) := dk_167 5 110 (dk_at dksL_law_8 15 rfl rfl)
theorem dL_law_304 : decode cL_law 304 = .ok (.aload_n 1, 1) := dk_43 (dk_at dksL_law_8 18 rfl rfl)
theorem dL_law_305 : decode cL_law 305 = .ok (.aload_n 0, 1) := dk_42 (dk_at dksL_law_8 19 rfl rfl)
theorem dL_law_306 : decode cL_law 306 = .ok (.iload 5, 2) := dk_21 5 (dk_at dksL_law_8 20 rfl rfl)
theorem dL_law_308 : decode cL_law 308 = .ok (.iconst 1, 1) := dk_4 (dk_at dksL_law_8 22 rfl rfl)
theorem dL_law_309 : decode cL_law 309 = .ok (.iadd, 1) := dk_96 (dk_at dksL_law_8 23 rfl rfl)
theorem dL_law_310 : decode cL_law 310 = .ok (.iaload, 1) := dk_46 (dk_at dksL_law_9 0 rfl rfl)
theorem dL_law_311 : decode cL_law 311 = .ok (.aload_n 0, 1) := dk_42 (dk_at dksL_law_9 1 rfl rfl)
theorem dL_law_312 : decode cL_law 312 = .ok (.iload 5, 2) := dk_21 5 (dk_at dksL_law_9 2 rfl rfl)
theorem dL_law_314 : decode cL_law 314 = .ok (.iconst 2, 1) := dk_5 (dk_at dksL_law_9 4 rfl rfl)
theorem dL_law_315 : decode cL_law 315 = .ok (.iadd, 1) := dk_96 (dk_at dksL_law_9 5 rfl rfl)
theorem dL_law_316 : decode cL_law 316 = .ok (.iaload, 1) := dk_46 (dk_at dksL_law_9 6 rfl rfl)
theorem dL_law_317 : decode cL_law 317 = .ok (.ifCond .eq 7, 3) := dk_153 0 7 (dk_at dksL_law_9 7 rfl rfl)
theorem dL_law_320 : decode cL_law 320 = .ok (.iconst 1, 1) := dk_4 (dk_at dksL_law_9 10 rfl rfl)
theorem dL_law_321 : decode cL_law 321 = .ok (.goto 4, 3) := dk_167 0 4 (dk_at dksL_law_9 11 rfl rfl)
theorem dL_law_324 : decode cL_law 324 = .ok (.iconst 0, 1) := dk_3 (dk_at dksL_law_9 14 rfl rfl)
theorem dL_law_325 : decode cL_law 325 = .ok (.aload_n 3, 1) := dk_45 (dk_at dksL_law_9 15 rfl rfl)
theorem dL_law_326 : decode cL_law 326 = .ok (.invokestatic 105, 3) := dk_184 0 105 (dk_at dksL_law_9 16 rfl rfl)
theorem dL_law_329 : decode cL_law 329 = .ok (.istore 6, 2) := dk_54 6 (dk_at dksL_law_9 19 rfl rfl)
theorem dL_law_331 : decode cL_law 331 = .ok (.aload_n 2, 1) := dk_44 (dk_at dksL_law_9 21 rfl rfl)
theorem dL_law_332 : decode cL_law 332 = .ok (.aload_n 0, 1) := dk_42 (dk_at dksL_law_9 22 rfl rfl)
theorem dL_law_333 : decode cL_law 333 = .ok (.iload 5, 2) := dk_21 5 (dk_at dksL_law_10 0 rfl rfl)
theorem dL_law_335 : decode cL_law 335 = .ok (.iconst 1, 1) := dk_4 (dk_at dksL_law_10 2 rfl rfl)
theorem dL_law_336 : decode cL_law 336 = .ok (.iadd, 1) := dk_96 (dk_at dksL_law_10 3 rfl rfl)
theorem dL_law_337 : decode cL_law 337 = .ok (.iaload, 1) := dk_46 (dk_at dksL_law_10 4 rfl rfl)
theorem dL_law_338 : decode cL_law 338 = .ok (.aload_n 0, 1) := dk_42 (dk_at dksL_law_10 5 rfl rfl)
theorem dL_law_339 : decode cL_law 339 = .ok (.iload 5, 2) := dk_21 5 (dk_at dksL_law_10 6 rfl rfl)
theorem dL_law_341 : decode cL_law 341 = .ok (.iconst 2, 1) := dk_5 (dk_at dksL_law_10 8 rfl rfl)
theorem dL_law_342 : decode cL_law 342 = .ok (.iadd, 1) := dk_96 (dk_at dksL_law_10 9 rfl rfl)
theorem dL_law_343 : decode cL_law 343 = .ok (.iaload, 1) := dk_46 (dk_at dksL_law_10 10 rfl rfl)
theorem dL_law_344 : decode cL_law 344 = .ok (.ifCond .eq 7, 3) := dk_153 0 7 (dk_at dksL_law_10 11 rfl rfl)
theorem dL_law_347 : decode cL_law 347 = .ok (.iconst 1, 1) := dk_4 (dk_at dksL_law_10 14 rfl rfl)
theorem dL_law_348 : decode cL_law 348 = .ok (.goto 4, 3) := dk_167 0 4 (dk_at dksL_law_10 15 rfl rfl)
theorem dL_law_351 : decode cL_law 351 = .ok (.iconst 0, 1) := dk_3 (dk_at dksL_law_10 18 rfl rfl)
theorem dL_law_352 : decode cL_law 352 = .ok (.invokevirtual 108, 3) := dk_182 0 108 (dk_at dksL_law_10 19 rfl rfl)
theorem dL_law_355 : decode cL_law 355 = .ok (.istore 7, 2) := dk_54 7 (dk_at dksL_law_10 22 rfl rfl)
theorem dL_law_357 : decode cL_law 357 = .ok (.aload_n 2, 1) := dk_44 (dk_at dksL_law_11 0 rfl rfl)
theorem dL_law_358 : decode cL_law 358 = .ok (.invokevirtual 99, 3) := dk_182 0 99 (dk_at dksL_law_11 1 rfl rfl)
theorem dL_law_361 : decode cL_law 361 = .ok (.iload 6, 2) := dk_21 6 (dk_at dksL_law_11 4 rfl rfl)
theorem dL_law_363 : decode cL_law 363 = .ok (.if_icmp .eq 5, 3) := dk_159 0 5 (dk_at dksL_law_11 6 rfl rfl)
theorem dL_law_366 : decode cL_law 366 = .ok (.iconst 0, 1) := dk_3 (dk_at dksL_law_11 9 rfl rfl)
theorem dL_law_367 : decode cL_law 367 = .ok (.ireturn, 1) := dk_172 (dk_at dksL_law_11 10 rfl rfl)
theorem dL_law_368 : decode cL_law 368 = .ok (.iload 6, 2) := dk_21 6 (dk_at dksL_law_11 11 rfl rfl)
theorem dL_law_370 : decode cL_law 370 = .ok (.ifCond .ne 22, 3) := dk_154 0 22 (dk_at dksL_law_11 13 rfl rfl)
theorem dL_law_373 : decode cL_law 373 = .ok (.aload_n 3, 1) := dk_45 (dk_at dksL_law_11 16 rfl rfl)
theorem dL_law_374 : decode cL_law 374 = .ok (.iconst 0, 1) := dk_3 (dk_at dksL_law_11 17 rfl rfl)
theorem dL_law_375 : decode cL_law 375 = .ok (.laload, 1) := dk_47 (dk_at dksL_law_11 18 rfl rfl)
theorem dL_law_376 : decode cL_law 376 = .ok (.iload 7, 2) := dk_21 7 (dk_at dksL_law_11 19 rfl rfl)
theorem dL_law_378 : decode cL_law 378 = .ok (.ifCond .eq 7, 3) := dk_153 0 7 (dk_at dksL_law_11 21 rfl rfl)
theorem dL_law_381 : decode cL_law 381 = .ok (.lconst 1, 1) := dk_10 (dk_at dksL_law_12 0 rfl rfl)
theorem dL_law_382 : decode cL_law 382 = .ok (.goto 4, 3) := dk_167 0 4 (dk_at dksL_law_12 1 rfl rfl)
theorem dL_law_385 : decode cL_law 385 = .ok (.lconst 0, 1) := dk_9 (dk_at dksL_law_12 4 rfl rfl)
theorem dL_law_386 : decode cL_law 386 = .ok (.lcmp, 1) := dk_148 (dk_at dksL_law_12 5 rfl rfl)
theorem dL_law_387 : decode cL_law 387 = .ok (.ifCond .eq 5, 3) := dk_153 0 5 (dk_at dksL_law_12 6 rfl rfl)
theorem dL_law_390 : decode cL_law 390 = .ok (.iconst 0, 1) := dk_3 (dk_at dksL_law_12 9 rfl rfl)
theorem dL_law_391 : decode cL_law 391 = .ok (.ireturn, 1) := dk_172 (dk_at dksL_law_12 10 rfl rfl)
theorem dL_law_392 : decode cL_law 392 = .ok (.goto 1299, 3) := dk_167 5 19 (dk_at dksL_law_12 11 rfl rfl)
theorem dL_law_395 : decode cL_law 395 = .ok (.aload_n 1, 1) := dk_43 (dk_at dksL_law_12 14 rfl rfl)
theorem dL_law_396 : decode cL_law 396 = .ok (.aload_n 0, 1) := dk_42 (dk_at dksL_law_12 15 rfl rfl)
theorem dL_law_397 : decode cL_law 397 = .ok (.iload 5, 2) := dk_21 5 (dk_at dksL_law_12 16 rfl rfl)
theorem dL_law_399 : decode cL_law 399 = .ok (.iconst 1, 1) := dk_4 (dk_at dksL_law_12 18 rfl rfl)
theorem dL_law_400 : decode cL_law 400 = .ok (.iadd, 1) := dk_96 (dk_at dksL_law_12 19 rfl rfl)
theorem dL_law_401 : decode cL_law 401 = .ok (.iaload, 1) := dk_46 (dk_at dksL_law_12 20 rfl rfl)
theorem dL_law_402 : decode cL_law 402 = .ok (.aload_n 0, 1) := dk_42 (dk_at dksL_law_12 21 rfl rfl)
theorem dL_law_403 : decode cL_law 403 = .ok (.iload 5, 2) := dk_21 5 (dk_at dksL_law_12 22 rfl rfl)
theorem dL_law_405 : decode cL_law 405 = .ok (.iconst 2, 1) := dk_5 (dk_at dksL_law_13 0 rfl rfl)
theorem dL_law_406 : decode cL_law 406 = .ok (.iadd, 1) := dk_96 (dk_at dksL_law_13 1 rfl rfl)
theorem dL_law_407 : decode cL_law 407 = .ok (.iaload, 1) := dk_46 (dk_at dksL_law_13 2 rfl rfl)
theorem dL_law_408 : decode cL_law 408 = .ok (.aload_n 0, 1) := dk_42 (dk_at dksL_law_13 3 rfl rfl)
theorem dL_law_409 : decode cL_law 409 = .ok (.iload 5, 2) := dk_21 5 (dk_at dksL_law_13 4 rfl rfl)
theorem dL_law_411 : decode cL_law 411 = .ok (.iconst 3, 1) := dk_6 (dk_at dksL_law_13 6 rfl rfl)
theorem dL_law_412 : decode cL_law 412 = .ok (.iadd, 1) := dk_96 (dk_at dksL_law_13 7 rfl rfl)
theorem dL_law_413 : decode cL_law 413 = .ok (.iaload, 1) := dk_46 (dk_at dksL_law_13 8 rfl rfl)
theorem dL_law_414 : decode cL_law 414 = .ok (.aload_n 3, 1) := dk_45 (dk_at dksL_law_13 9 rfl rfl)
theorem dL_law_415 : decode cL_law 415 = .ok (.invokestatic 109, 3) := dk_184 0 109 (dk_at dksL_law_13 10 rfl rfl)
theorem dL_law_418 : decode cL_law 418 = .ok (.istore 6, 2) := dk_54 6 (dk_at dksL_law_13 13 rfl rfl)
theorem dL_law_420 : decode cL_law 420 = .ok (.aload_n 2, 1) := dk_44 (dk_at dksL_law_13 15 rfl rfl)
theorem dL_law_421 : decode cL_law 421 = .ok (.aload_n 0, 1) := dk_42 (dk_at dksL_law_13 16 rfl rfl)
theorem dL_law_422 : decode cL_law 422 = .ok (.iload 5, 2) := dk_21 5 (dk_at dksL_law_13 17 rfl rfl)
theorem dL_law_424 : decode cL_law 424 = .ok (.iconst 1, 1) := dk_4 (dk_at dksL_law_13 19 rfl rfl)
theorem dL_law_425 : decode cL_law 425 = .ok (.iadd, 1) := dk_96 (dk_at dksL_law_13 20 rfl rfl)
theorem dL_law_426 : decode cL_law 426 = .ok (.iaload, 1) := dk_46 (dk_at dksL_law_13 21 rfl rfl)
theorem dL_law_427 : decode cL_law 427 = .ok (.aload_n 0, 1) := dk_42 (dk_at dksL_law_13 22 rfl rfl)
theorem dL_law_428 : decode cL_law 428 = .ok (.iload 5, 2) := dk_21 5 (dk_at dksL_law_14 0 rfl rfl)
theorem dL_law_430 : decode cL_law 430 = .ok (.iconst 2, 1) := dk_5 (dk_at dksL_law_14 2 rfl rfl)
theorem dL_law_431 : decode cL_law 431 = .ok (.iadd, 1) := dk_96 (dk_at dksL_law_14 3 rfl rfl)
theorem dL_law_432 : decode cL_law 432 = .ok (.iaload, 1) := dk_46 (dk_at dksL_law_14 4 rfl rfl)
theorem dL_law_433 : decode cL_law 433 = .ok (.aload_n 0, 1) := dk_42 (dk_at dksL_law_14 5 rfl rfl)
theorem dL_law_434 : decode cL_law 434 = .ok (.iload 5, 2) := dk_21 5 (dk_at dksL_law_14 6 rfl rfl)
theorem dL_law_436 : decode cL_law 436 = .ok (.iconst 3, 1) := dk_6 (dk_at dksL_law_14 8 rfl rfl)
theorem dL_law_437 : decode cL_law 437 = .ok (.iadd, 1) := dk_96 (dk_at dksL_law_14 9 rfl rfl)
theorem dL_law_438 : decode cL_law 438 = .ok (.iaload, 1) := dk_46 (dk_at dksL_law_14 10 rfl rfl)
theorem dL_law_439 : decode cL_law 439 = .ok (.invokevirtual 112, 3) := dk_182 0 112 (dk_at dksL_law_14 11 rfl rfl)
theorem dL_law_442 : decode cL_law 442 = .ok (.istore 7, 2) := dk_54 7 (dk_at dksL_law_14 14 rfl rfl)
theorem dL_law_444 : decode cL_law 444 = .ok (.aload_n 2, 1) := dk_44 (dk_at dksL_law_14 16 rfl rfl)
theorem dL_law_445 : decode cL_law 445 = .ok (.invokevirtual 99, 3) := dk_182 0 99 (dk_at dksL_law_14 17 rfl rfl)
theorem dL_law_448 : decode cL_law 448 = .ok (.iload 6, 2) := dk_21 6 (dk_at dksL_law_14 20 rfl rfl)
theorem dL_law_450 : decode cL_law 450 = .ok (.if_icmp .eq 5, 3) := dk_159 0 5 (dk_at dksL_law_15 0 rfl rfl)
theorem dL_law_453 : decode cL_law 453 = .ok (.iconst 0, 1) := dk_3 (dk_at dksL_law_15 3 rfl rfl)
theorem dL_law_454 : decode cL_law 454 = .ok (.ireturn, 1) := dk_172 (dk_at dksL_law_15 4 rfl rfl)
theorem dL_law_455 : decode cL_law 455 = .ok (.iload 6, 2) := dk_21 6 (dk_at dksL_law_15 5 rfl rfl)
theorem dL_law_457 : decode cL_law 457 = .ok (.ifCond .ne 15, 3) := dk_154 0 15 (dk_at dksL_law_15 7 rfl rfl)
theorem dL_law_460 : decode cL_law 460 = .ok (.aload_n 3, 1) := dk_45 (dk_at dksL_law_15 10 rfl rfl)
theorem dL_law_461 : decode cL_law 461 = .ok (.iconst 0, 1) := dk_3 (dk_at dksL_law_15 11 rfl rfl)
theorem dL_law_462 : decode cL_law 462 = .ok (.laload, 1) := dk_47 (dk_at dksL_law_15 12 rfl rfl)
theorem dL_law_463 : decode cL_law 463 = .ok (.iload 7, 2) := dk_21 7 (dk_at dksL_law_15 13 rfl rfl)
theorem dL_law_465 : decode cL_law 465 = .ok (.i2l, 1) := dk_133 (dk_at dksL_law_15 15 rfl rfl)
theorem dL_law_466 : decode cL_law 466 = .ok (.lcmp, 1) := dk_148 (dk_at dksL_law_15 16 rfl rfl)
theorem dL_law_467 : decode cL_law 467 = .ok (.ifCond .eq 5, 3) := dk_153 0 5 (dk_at dksL_law_15 17 rfl rfl)
theorem dL_law_470 : decode cL_law 470 = .ok (.iconst 0, 1) := dk_3 (dk_at dksL_law_15 20 rfl rfl)
theorem dL_law_471 : decode cL_law 471 = .ok (.ireturn, 1) := dk_172 (dk_at dksL_law_15 21 rfl rfl)
theorem dL_law_472 : decode cL_law 472 = .ok (.goto 1219, 3) := dk_167 4 195 (dk_at dksL_law_16 0 rfl rfl)
theorem dL_law_475 : decode cL_law 475 = .ok (.aload_n 1, 1) := dk_43 (dk_at dksL_law_16 3 rfl rfl)
theorem dL_law_476 : decode cL_law 476 = .ok (.aload_n 0, 1) := dk_42 (dk_at dksL_law_16 4 rfl rfl)
theorem dL_law_477 : decode cL_law 477 = .ok (.iload 5, 2) := dk_21 5 (dk_at dksL_law_16 5 rfl rfl)
theorem dL_law_479 : decode cL_law 479 = .ok (.iconst 1, 1) := dk_4 (dk_at dksL_law_16 7 rfl rfl)
theorem dL_law_480 : decode cL_law 480 = .ok (.iadd, 1) := dk_96 (dk_at dksL_law_16 8 rfl rfl)
theorem dL_law_481 : decode cL_law 481 = .ok (.iaload, 1) := dk_46 (dk_at dksL_law_16 9 rfl rfl)
theorem dL_law_482 : decode cL_law 482 = .ok (.aload_n 0, 1) := dk_42 (dk_at dksL_law_16 10 rfl rfl)
theorem dL_law_483 : decode cL_law 483 = .ok (.iload 5, 2) := dk_21 5 (dk_at dksL_law_16 11 rfl rfl)
theorem dL_law_485 : decode cL_law 485 = .ok (.iconst 2, 1) := dk_5 (dk_at dksL_law_16 13 rfl rfl)
theorem dL_law_486 : decode cL_law 486 = .ok (.iadd, 1) := dk_96 (dk_at dksL_law_16 14 rfl rfl)
theorem dL_law_487 : decode cL_law 487 = .ok (.iaload, 1) := dk_46 (dk_at dksL_law_16 15 rfl rfl)
theorem dL_law_488 : decode cL_law 488 = .ok (.aload_n 3, 1) := dk_45 (dk_at dksL_law_16 16 rfl rfl)
theorem dL_law_489 : decode cL_law 489 = .ok (.invokestatic 113, 3) := dk_184 0 113 (dk_at dksL_law_16 17 rfl rfl)
theorem dL_law_492 : decode cL_law 492 = .ok (.istore 6, 2) := dk_54 6 (dk_at dksL_law_16 20 rfl rfl)
theorem dL_law_494 : decode cL_law 494 = .ok (.aload_n 2, 1) := dk_44 (dk_at dksL_law_16 22 rfl rfl)
theorem dL_law_495 : decode cL_law 495 = .ok (.aload_n 0, 1) := dk_42 (dk_at dksL_law_16 23 rfl rfl)
theorem dL_law_496 : decode cL_law 496 = .ok (.iload 5, 2) := dk_21 5 (dk_at dksL_law_17 0 rfl rfl)
theorem dL_law_498 : decode cL_law 498 = .ok (.iconst 1, 1) := dk_4 (dk_at dksL_law_17 2 rfl rfl)
theorem dL_law_499 : decode cL_law 499 = .ok (.iadd, 1) := dk_96 (dk_at dksL_law_17 3 rfl rfl)
theorem dL_law_500 : decode cL_law 500 = .ok (.iaload, 1) := dk_46 (dk_at dksL_law_17 4 rfl rfl)
theorem dL_law_501 : decode cL_law 501 = .ok (.aload_n 0, 1) := dk_42 (dk_at dksL_law_17 5 rfl rfl)
theorem dL_law_502 : decode cL_law 502 = .ok (.iload 5, 2) := dk_21 5 (dk_at dksL_law_17 6 rfl rfl)
theorem dL_law_504 : decode cL_law 504 = .ok (.iconst 2, 1) := dk_5 (dk_at dksL_law_17 8 rfl rfl)
theorem dL_law_505 : decode cL_law 505 = .ok (.iadd, 1) := dk_96 (dk_at dksL_law_17 9 rfl rfl)
theorem dL_law_506 : decode cL_law 506 = .ok (.iaload, 1) := dk_46 (dk_at dksL_law_17 10 rfl rfl)
theorem dL_law_507 : decode cL_law 507 = .ok (.invokevirtual 115, 3) := dk_182 0 115 (dk_at dksL_law_17 11 rfl rfl)
theorem dL_law_510 : decode cL_law 510 = .ok (.istore 7, 2) := dk_54 7 (dk_at dksL_law_17 14 rfl rfl)
theorem dL_law_512 : decode cL_law 512 = .ok (.aload_n 2, 1) := dk_44 (dk_at dksL_law_17 16 rfl rfl)
theorem dL_law_513 : decode cL_law 513 = .ok (.invokevirtual 99, 3) := dk_182 0 99 (dk_at dksL_law_17 17 rfl rfl)
theorem dL_law_516 : decode cL_law 516 = .ok (.iload 6, 2) := dk_21 6 (dk_at dksL_law_17 20 rfl rfl)
theorem dL_law_518 : decode cL_law 518 = .ok (.if_icmp .eq 5, 3) := dk_159 0 5 (dk_at dksL_law_18 0 rfl rfl)
theorem dL_law_521 : decode cL_law 521 = .ok (.iconst 0, 1) := dk_3 (dk_at dksL_law_18 3 rfl rfl)
theorem dL_law_522 : decode cL_law 522 = .ok (.ireturn, 1) := dk_172 (dk_at dksL_law_18 4 rfl rfl)
theorem dL_law_523 : decode cL_law 523 = .ok (.iload 6, 2) := dk_21 6 (dk_at dksL_law_18 5 rfl rfl)
theorem dL_law_525 : decode cL_law 525 = .ok (.ifCond .ne 15, 3) := dk_154 0 15 (dk_at dksL_law_18 7 rfl rfl)
theorem dL_law_528 : decode cL_law 528 = .ok (.aload_n 3, 1) := dk_45 (dk_at dksL_law_18 10 rfl rfl)
theorem dL_law_529 : decode cL_law 529 = .ok (.iconst 0, 1) := dk_3 (dk_at dksL_law_18 11 rfl rfl)
theorem dL_law_530 : decode cL_law 530 = .ok (.laload, 1) := dk_47 (dk_at dksL_law_18 12 rfl rfl)
theorem dL_law_531 : decode cL_law 531 = .ok (.iload 7, 2) := dk_21 7 (dk_at dksL_law_18 13 rfl rfl)
theorem dL_law_533 : decode cL_law 533 = .ok (.i2l, 1) := dk_133 (dk_at dksL_law_18 15 rfl rfl)
theorem dL_law_534 : decode cL_law 534 = .ok (.lcmp, 1) := dk_148 (dk_at dksL_law_18 16 rfl rfl)
theorem dL_law_535 : decode cL_law 535 = .ok (.ifCond .eq 5, 3) := dk_153 0 5 (dk_at dksL_law_18 17 rfl rfl)
theorem dL_law_538 : decode cL_law 538 = .ok (.iconst 0, 1) := dk_3 (dk_at dksL_law_18 20 rfl rfl)
theorem dL_law_539 : decode cL_law 539 = .ok (.ireturn, 1) := dk_172 (dk_at dksL_law_18 21 rfl rfl)
theorem dL_law_540 : decode cL_law 540 = .ok (.goto 1151, 3) := dk_167 4 127 (dk_at dksL_law_19 0 rfl rfl)
theorem dL_law_543 : decode cL_law 543 = .ok (.aload_n 1, 1) := dk_43 (dk_at dksL_law_19 3 rfl rfl)
theorem dL_law_544 : decode cL_law 544 = .ok (.aload_n 0, 1) := dk_42 (dk_at dksL_law_19 4 rfl rfl)
theorem dL_law_545 : decode cL_law 545 = .ok (.iload 5, 2) := dk_21 5 (dk_at dksL_law_19 5 rfl rfl)
theorem dL_law_547 : decode cL_law 547 = .ok (.iconst 1, 1) := dk_4 (dk_at dksL_law_19 7 rfl rfl)
theorem dL_law_548 : decode cL_law 548 = .ok (.iadd, 1) := dk_96 (dk_at dksL_law_19 8 rfl rfl)
theorem dL_law_549 : decode cL_law 549 = .ok (.iaload, 1) := dk_46 (dk_at dksL_law_19 9 rfl rfl)
theorem dL_law_550 : decode cL_law 550 = .ok (.aload_n 0, 1) := dk_42 (dk_at dksL_law_19 10 rfl rfl)
theorem dL_law_551 : decode cL_law 551 = .ok (.iload 5, 2) := dk_21 5 (dk_at dksL_law_19 11 rfl rfl)
theorem dL_law_553 : decode cL_law 553 = .ok (.iconst 2, 1) := dk_5 (dk_at dksL_law_19 13 rfl rfl)
theorem dL_law_554 : decode cL_law 554 = .ok (.iadd, 1) := dk_96 (dk_at dksL_law_19 14 rfl rfl)
theorem dL_law_555 : decode cL_law 555 = .ok (.iaload, 1) := dk_46 (dk_at dksL_law_19 15 rfl rfl)
theorem dL_law_556 : decode cL_law 556 = .ok (.aload_n 3, 1) := dk_45 (dk_at dksL_law_19 16 rfl rfl)
theorem dL_law_557 : decode cL_law 557 = .ok (.invokestatic 116, 3) := dk_184 0 116 (dk_at dksL_law_19 17 rfl rfl)
theorem dL_law_560 : decode cL_law 560 = .ok (.istore 6, 2) := dk_54 6 (dk_at dksL_law_19 20 rfl rfl)
theorem dL_law_562 : decode cL_law 562 = .ok (.aload_n 2, 1) := dk_44 (dk_at dksL_law_19 22 rfl rfl)
theorem dL_law_563 : decode cL_law 563 = .ok (.aload_n 0, 1) := dk_42 (dk_at dksL_law_19 23 rfl rfl)
theorem dL_law_564 : decode cL_law 564 = .ok (.iload 5, 2) := dk_21 5 (dk_at dksL_law_20 0 rfl rfl)
theorem dL_law_566 : decode cL_law 566 = .ok (.iconst 1, 1) := dk_4 (dk_at dksL_law_20 2 rfl rfl)
theorem dL_law_567 : decode cL_law 567 = .ok (.iadd, 1) := dk_96 (dk_at dksL_law_20 3 rfl rfl)
theorem dL_law_568 : decode cL_law 568 = .ok (.iaload, 1) := dk_46 (dk_at dksL_law_20 4 rfl rfl)
theorem dL_law_569 : decode cL_law 569 = .ok (.aload_n 0, 1) := dk_42 (dk_at dksL_law_20 5 rfl rfl)
theorem dL_law_570 : decode cL_law 570 = .ok (.iload 5, 2) := dk_21 5 (dk_at dksL_law_20 6 rfl rfl)
theorem dL_law_572 : decode cL_law 572 = .ok (.iconst 2, 1) := dk_5 (dk_at dksL_law_20 8 rfl rfl)
theorem dL_law_573 : decode cL_law 573 = .ok (.iadd, 1) := dk_96 (dk_at dksL_law_20 9 rfl rfl)
theorem dL_law_574 : decode cL_law 574 = .ok (.iaload, 1) := dk_46 (dk_at dksL_law_20 10 rfl rfl)
theorem dL_law_575 : decode cL_law 575 = .ok (.invokevirtual 118, 3) := dk_182 0 118 (dk_at dksL_law_20 11 rfl rfl)
theorem dL_law_578 : decode cL_law 578 = .ok (.istore 7, 2) := dk_54 7 (dk_at dksL_law_20 14 rfl rfl)
theorem dL_law_580 : decode cL_law 580 = .ok (.aload_n 2, 1) := dk_44 (dk_at dksL_law_20 16 rfl rfl)
theorem dL_law_581 : decode cL_law 581 = .ok (.invokevirtual 99, 3) := dk_182 0 99 (dk_at dksL_law_20 17 rfl rfl)
theorem dL_law_584 : decode cL_law 584 = .ok (.iload 6, 2) := dk_21 6 (dk_at dksL_law_20 20 rfl rfl)
theorem dL_law_586 : decode cL_law 586 = .ok (.if_icmp .eq 5, 3) := dk_159 0 5 (dk_at dksL_law_21 0 rfl rfl)
theorem dL_law_589 : decode cL_law 589 = .ok (.iconst 0, 1) := dk_3 (dk_at dksL_law_21 3 rfl rfl)
theorem dL_law_590 : decode cL_law 590 = .ok (.ireturn, 1) := dk_172 (dk_at dksL_law_21 4 rfl rfl)
theorem dL_law_591 : decode cL_law 591 = .ok (.iload 6, 2) := dk_21 6 (dk_at dksL_law_21 5 rfl rfl)
theorem dL_law_593 : decode cL_law 593 = .ok (.ifCond .ne 15, 3) := dk_154 0 15 (dk_at dksL_law_21 7 rfl rfl)
theorem dL_law_596 : decode cL_law 596 = .ok (.aload_n 3, 1) := dk_45 (dk_at dksL_law_21 10 rfl rfl)
theorem dL_law_597 : decode cL_law 597 = .ok (.iconst 0, 1) := dk_3 (dk_at dksL_law_21 11 rfl rfl)
theorem dL_law_598 : decode cL_law 598 = .ok (.laload, 1) := dk_47 (dk_at dksL_law_21 12 rfl rfl)
theorem dL_law_599 : decode cL_law 599 = .ok (.iload 7, 2) := dk_21 7 (dk_at dksL_law_21 13 rfl rfl)
theorem dL_law_601 : decode cL_law 601 = .ok (.i2l, 1) := dk_133 (dk_at dksL_law_21 15 rfl rfl)
theorem dL_law_602 : decode cL_law 602 = .ok (.lcmp, 1) := dk_148 (dk_at dksL_law_21 16 rfl rfl)
theorem dL_law_603 : decode cL_law 603 = .ok (.ifCond .eq 5, 3) := dk_153 0 5 (dk_at dksL_law_21 17 rfl rfl)
theorem dL_law_606 : decode cL_law 606 = .ok (.iconst 0, 1) := dk_3 (dk_at dksL_law_21 20 rfl rfl)
theorem dL_law_607 : decode cL_law 607 = .ok (.ireturn, 1) := dk_172 (dk_at dksL_law_21 21 rfl rfl)
theorem dL_law_608 : decode cL_law 608 = .ok (.goto 1083, 3) := dk_167 4 59 (dk_at dksL_law_22 0 rfl rfl)
theorem dL_law_611 : decode cL_law 611 = .ok (.aload_n 1, 1) := dk_43 (dk_at dksL_law_22 3 rfl rfl)
theorem dL_law_612 : decode cL_law 612 = .ok (.aload_n 0, 1) := dk_42 (dk_at dksL_law_22 4 rfl rfl)
theorem dL_law_613 : decode cL_law 613 = .ok (.iload 5, 2) := dk_21 5 (dk_at dksL_law_22 5 rfl rfl)
theorem dL_law_615 : decode cL_law 615 = .ok (.iconst 1, 1) := dk_4 (dk_at dksL_law_22 7 rfl rfl)
theorem dL_law_616 : decode cL_law 616 = .ok (.iadd, 1) := dk_96 (dk_at dksL_law_22 8 rfl rfl)
theorem dL_law_617 : decode cL_law 617 = .ok (.iaload, 1) := dk_46 (dk_at dksL_law_22 9 rfl rfl)
theorem dL_law_618 : decode cL_law 618 = .ok (.aload_n 0, 1) := dk_42 (dk_at dksL_law_22 10 rfl rfl)
theorem dL_law_619 : decode cL_law 619 = .ok (.iload 5, 2) := dk_21 5 (dk_at dksL_law_22 11 rfl rfl)
theorem dL_law_621 : decode cL_law 621 = .ok (.iconst 2, 1) := dk_5 (dk_at dksL_law_22 13 rfl rfl)
theorem dL_law_622 : decode cL_law 622 = .ok (.iadd, 1) := dk_96 (dk_at dksL_law_22 14 rfl rfl)
theorem dL_law_623 : decode cL_law 623 = .ok (.iaload, 1) := dk_46 (dk_at dksL_law_22 15 rfl rfl)
theorem dL_law_624 : decode cL_law 624 = .ok (.aload_n 0, 1) := dk_42 (dk_at dksL_law_22 16 rfl rfl)
theorem dL_law_625 : decode cL_law 625 = .ok (.iload 5, 2) := dk_21 5 (dk_at dksL_law_22 17 rfl rfl)
theorem dL_law_627 : decode cL_law 627 = .ok (.iconst 3, 1) := dk_6 (dk_at dksL_law_22 19 rfl rfl)
theorem dL_law_628 : decode cL_law 628 = .ok (.iadd, 1) := dk_96 (dk_at dksL_law_22 20 rfl rfl)
theorem dL_law_629 : decode cL_law 629 = .ok (.iaload, 1) := dk_46 (dk_at dksL_law_22 21 rfl rfl)
theorem dL_law_630 : decode cL_law 630 = .ok (.ifCond .eq 7, 3) := dk_153 0 7 (dk_at dksL_law_23 0 rfl rfl)
theorem dL_law_633 : decode cL_law 633 = .ok (.iconst 1, 1) := dk_4 (dk_at dksL_law_23 3 rfl rfl)
theorem dL_law_634 : decode cL_law 634 = .ok (.goto 4, 3) := dk_167 0 4 (dk_at dksL_law_23 4 rfl rfl)
theorem dL_law_637 : decode cL_law 637 = .ok (.iconst 0, 1) := dk_3 (dk_at dksL_law_23 7 rfl rfl)
theorem dL_law_638 : decode cL_law 638 = .ok (.aload_n 3, 1) := dk_45 (dk_at dksL_law_23 8 rfl rfl)
theorem dL_law_639 : decode cL_law 639 = .ok (.invokestatic 119, 3) := dk_184 0 119 (dk_at dksL_law_23 9 rfl rfl)
theorem dL_law_642 : decode cL_law 642 = .ok (.istore 6, 2) := dk_54 6 (dk_at dksL_law_23 12 rfl rfl)
theorem dL_law_644 : decode cL_law 644 = .ok (.aload_n 2, 1) := dk_44 (dk_at dksL_law_23 14 rfl rfl)
theorem dL_law_645 : decode cL_law 645 = .ok (.aload_n 0, 1) := dk_42 (dk_at dksL_law_23 15 rfl rfl)
theorem dL_law_646 : decode cL_law 646 = .ok (.iload 5, 2) := dk_21 5 (dk_at dksL_law_23 16 rfl rfl)
theorem dL_law_648 : decode cL_law 648 = .ok (.iconst 1, 1) := dk_4 (dk_at dksL_law_23 18 rfl rfl)
theorem dL_law_649 : decode cL_law 649 = .ok (.iadd, 1) := dk_96 (dk_at dksL_law_23 19 rfl rfl)
theorem dL_law_650 : decode cL_law 650 = .ok (.iaload, 1) := dk_46 (dk_at dksL_law_23 20 rfl rfl)
theorem dL_law_651 : decode cL_law 651 = .ok (.aload_n 0, 1) := dk_42 (dk_at dksL_law_23 21 rfl rfl)
theorem dL_law_652 : decode cL_law 652 = .ok (.iload 5, 2) := dk_21 5 (dk_at dksL_law_23 22 rfl rfl)
theorem dL_law_654 : decode cL_law 654 = .ok (.iconst 2, 1) := dk_5 (dk_at dksL_law_24 0 rfl rfl)
theorem dL_law_655 : decode cL_law 655 = .ok (.iadd, 1) := dk_96 (dk_at dksL_law_24 1 rfl rfl)
theorem dL_law_656 : decode cL_law 656 = .ok (.iaload, 1) := dk_46 (dk_at dksL_law_24 2 rfl rfl)
theorem dL_law_657 : decode cL_law 657 = .ok (.aload_n 0, 1) := dk_42 (dk_at dksL_law_24 3 rfl rfl)
theorem dL_law_658 : decode cL_law 658 = .ok (.iload 5, 2) := dk_21 5 (dk_at dksL_law_24 4 rfl rfl)
theorem dL_law_660 : decode cL_law 660 = .ok (.iconst 3, 1) := dk_6 (dk_at dksL_law_24 6 rfl rfl)
theorem dL_law_661 : decode cL_law 661 = .ok (.iadd, 1) := dk_96 (dk_at dksL_law_24 7 rfl rfl)
theorem dL_law_662 : decode cL_law 662 = .ok (.iaload, 1) := dk_46 (dk_at dksL_law_24 8 rfl rfl)
theorem dL_law_663 : decode cL_law 663 = .ok (.ifCond .eq 7, 3) := dk_153 0 7 (dk_at dksL_law_24 9 rfl rfl)
theorem dL_law_666 : decode cL_law 666 = .ok (.iconst 1, 1) := dk_4 (dk_at dksL_law_24 12 rfl rfl)
theorem dL_law_667 : decode cL_law 667 = .ok (.goto 4, 3) := dk_167 0 4 (dk_at dksL_law_24 13 rfl rfl)
theorem dL_law_670 : decode cL_law 670 = .ok (.iconst 0, 1) := dk_3 (dk_at dksL_law_24 16 rfl rfl)
theorem dL_law_671 : decode cL_law 671 = .ok (.invokevirtual 122, 3) := dk_182 0 122 (dk_at dksL_law_24 17 rfl rfl)
theorem dL_law_674 : decode cL_law 674 = .ok (.istore 7, 2) := dk_54 7 (dk_at dksL_law_24 20 rfl rfl)
theorem dL_law_676 : decode cL_law 676 = .ok (.aload_n 2, 1) := dk_44 (dk_at dksL_law_24 22 rfl rfl)
theorem dL_law_677 : decode cL_law 677 = .ok (.invokevirtual 99, 3) := dk_182 0 99 (dk_at dksL_law_25 0 rfl rfl)
theorem dL_law_680 : decode cL_law 680 = .ok (.iload 6, 2) := dk_21 6 (dk_at dksL_law_25 3 rfl rfl)
theorem dL_law_682 : decode cL_law 682 = .ok (.if_icmp .eq 5, 3) := dk_159 0 5 (dk_at dksL_law_25 5 rfl rfl)
theorem dL_law_685 : decode cL_law 685 = .ok (.iconst 0, 1) := dk_3 (dk_at dksL_law_25 8 rfl rfl)
theorem dL_law_686 : decode cL_law 686 = .ok (.ireturn, 1) := dk_172 (dk_at dksL_law_25 9 rfl rfl)
theorem dL_law_687 : decode cL_law 687 = .ok (.iload 6, 2) := dk_21 6 (dk_at dksL_law_25 10 rfl rfl)
theorem dL_law_689 : decode cL_law 689 = .ok (.ifCond .ne 15, 3) := dk_154 0 15 (dk_at dksL_law_25 12 rfl rfl)
theorem dL_law_692 : decode cL_law 692 = .ok (.aload_n 3, 1) := dk_45 (dk_at dksL_law_25 15 rfl rfl)
theorem dL_law_693 : decode cL_law 693 = .ok (.iconst 0, 1) := dk_3 (dk_at dksL_law_25 16 rfl rfl)
theorem dL_law_694 : decode cL_law 694 = .ok (.laload, 1) := dk_47 (dk_at dksL_law_25 17 rfl rfl)
theorem dL_law_695 : decode cL_law 695 = .ok (.iload 7, 2) := dk_21 7 (dk_at dksL_law_25 18 rfl rfl)
theorem dL_law_697 : decode cL_law 697 = .ok (.i2l, 1) := dk_133 (dk_at dksL_law_25 20 rfl rfl)
theorem dL_law_698 : decode cL_law 698 = .ok (.lcmp, 1) := dk_148 (dk_at dksL_law_25 21 rfl rfl)
theorem dL_law_699 : decode cL_law 699 = .ok (.ifCond .eq 5, 3) := dk_153 0 5 (dk_at dksL_law_26 0 rfl rfl)
theorem dL_law_702 : decode cL_law 702 = .ok (.iconst 0, 1) := dk_3 (dk_at dksL_law_26 3 rfl rfl)
theorem dL_law_703 : decode cL_law 703 = .ok (.ireturn, 1) := dk_172 (dk_at dksL_law_26 4 rfl rfl)
theorem dL_law_704 : decode cL_law 704 = .ok (.goto 987, 3) := dk_167 3 219 (dk_at dksL_law_26 5 rfl rfl)
theorem dL_law_707 : decode cL_law 707 = .ok (.aload_n 1, 1) := dk_43 (dk_at dksL_law_26 8 rfl rfl)
theorem dL_law_708 : decode cL_law 708 = .ok (.aload_n 0, 1) := dk_42 (dk_at dksL_law_26 9 rfl rfl)
theorem dL_law_709 : decode cL_law 709 = .ok (.iload 5, 2) := dk_21 5 (dk_at dksL_law_26 10 rfl rfl)
theorem dL_law_711 : decode cL_law 711 = .ok (.iconst 1, 1) := dk_4 (dk_at dksL_law_26 12 rfl rfl)
theorem dL_law_712 : decode cL_law 712 = .ok (.iadd, 1) := dk_96 (dk_at dksL_law_26 13 rfl rfl)
theorem dL_law_713 : decode cL_law 713 = .ok (.iaload, 1) := dk_46 (dk_at dksL_law_26 14 rfl rfl)
theorem dL_law_714 : decode cL_law 714 = .ok (.aload_n 3, 1) := dk_45 (dk_at dksL_law_26 15 rfl rfl)
theorem dL_law_715 : decode cL_law 715 = .ok (.invokestatic 123, 3) := dk_184 0 123 (dk_at dksL_law_26 16 rfl rfl)
theorem dL_law_718 : decode cL_law 718 = .ok (.istore 6, 2) := dk_54 6 (dk_at dksL_law_26 19 rfl rfl)
theorem dL_law_720 : decode cL_law 720 = .ok (.aload_n 2, 1) := dk_44 (dk_at dksL_law_26 21 rfl rfl)
theorem dL_law_721 : decode cL_law 721 = .ok (.aload_n 0, 1) := dk_42 (dk_at dksL_law_26 22 rfl rfl)
theorem dL_law_722 : decode cL_law 722 = .ok (.iload 5, 2) := dk_21 5 (dk_at dksL_law_27 0 rfl rfl)
theorem dL_law_724 : decode cL_law 724 = .ok (.iconst 1, 1) := dk_4 (dk_at dksL_law_27 2 rfl rfl)
theorem dL_law_725 : decode cL_law 725 = .ok (.iadd, 1) := dk_96 (dk_at dksL_law_27 3 rfl rfl)
theorem dL_law_726 : decode cL_law 726 = .ok (.iaload, 1) := dk_46 (dk_at dksL_law_27 4 rfl rfl)
theorem dL_law_727 : decode cL_law 727 = .ok (.invokevirtual 126, 3) := dk_182 0 126 (dk_at dksL_law_27 5 rfl rfl)
theorem dL_law_730 : decode cL_law 730 = .ok (.istore 7, 2) := dk_54 7 (dk_at dksL_law_27 8 rfl rfl)
theorem dL_law_732 : decode cL_law 732 = .ok (.aload_n 2, 1) := dk_44 (dk_at dksL_law_27 10 rfl rfl)
theorem dL_law_733 : decode cL_law 733 = .ok (.invokevirtual 99, 3) := dk_182 0 99 (dk_at dksL_law_27 11 rfl rfl)
theorem dL_law_736 : decode cL_law 736 = .ok (.iload 6, 2) := dk_21 6 (dk_at dksL_law_27 14 rfl rfl)
theorem dL_law_738 : decode cL_law 738 = .ok (.if_icmp .eq 5, 3) := dk_159 0 5 (dk_at dksL_law_27 16 rfl rfl)
theorem dL_law_741 : decode cL_law 741 = .ok (.iconst 0, 1) := dk_3 (dk_at dksL_law_27 19 rfl rfl)
theorem dL_law_742 : decode cL_law 742 = .ok (.ireturn, 1) := dk_172 (dk_at dksL_law_27 20 rfl rfl)
theorem dL_law_743 : decode cL_law 743 = .ok (.iload 6, 2) := dk_21 6 (dk_at dksL_law_27 21 rfl rfl)
theorem dL_law_745 : decode cL_law 745 = .ok (.ifCond .ne 15, 3) := dk_154 0 15 (dk_at dksL_law_28 0 rfl rfl)
theorem dL_law_748 : decode cL_law 748 = .ok (.aload_n 3, 1) := dk_45 (dk_at dksL_law_28 3 rfl rfl)
theorem dL_law_749 : decode cL_law 749 = .ok (.iconst 0, 1) := dk_3 (dk_at dksL_law_28 4 rfl rfl)
theorem dL_law_750 : decode cL_law 750 = .ok (.laload, 1) := dk_47 (dk_at dksL_law_28 5 rfl rfl)
theorem dL_law_751 : decode cL_law 751 = .ok (.iload 7, 2) := dk_21 7 (dk_at dksL_law_28 6 rfl rfl)
theorem dL_law_753 : decode cL_law 753 = .ok (.i2l, 1) := dk_133 (dk_at dksL_law_28 8 rfl rfl)
theorem dL_law_754 : decode cL_law 754 = .ok (.lcmp, 1) := dk_148 (dk_at dksL_law_28 9 rfl rfl)
theorem dL_law_755 : decode cL_law 755 = .ok (.ifCond .eq 5, 3) := dk_153 0 5 (dk_at dksL_law_28 10 rfl rfl)
theorem dL_law_758 : decode cL_law 758 = .ok (.iconst 0, 1) := dk_3 (dk_at dksL_law_28 13 rfl rfl)
theorem dL_law_759 : decode cL_law 759 = .ok (.ireturn, 1) := dk_172 (dk_at dksL_law_28 14 rfl rfl)
theorem dL_law_760 : decode cL_law 760 = .ok (.goto 931, 3) := dk_167 3 163 (dk_at dksL_law_28 15 rfl rfl)
theorem dL_law_763 : decode cL_law 763 = .ok (.aload_n 1, 1) := dk_43 (dk_at dksL_law_28 18 rfl rfl)
theorem dL_law_764 : decode cL_law 764 = .ok (.aload_n 0, 1) := dk_42 (dk_at dksL_law_28 19 rfl rfl)
theorem dL_law_765 : decode cL_law 765 = .ok (.iload 5, 2) := dk_21 5 (dk_at dksL_law_28 20 rfl rfl)
theorem dL_law_767 : decode cL_law 767 = .ok (.iconst 1, 1) := dk_4 (dk_at dksL_law_28 22 rfl rfl)
theorem dL_law_768 : decode cL_law 768 = .ok (.iadd, 1) := dk_96 (dk_at dksL_law_28 23 rfl rfl)
theorem dL_law_769 : decode cL_law 769 = .ok (.iaload, 1) := dk_46 (dk_at dksL_law_29 0 rfl rfl)
theorem dL_law_770 : decode cL_law 770 = .ok (.aload_n 0, 1) := dk_42 (dk_at dksL_law_29 1 rfl rfl)
theorem dL_law_771 : decode cL_law 771 = .ok (.iload 5, 2) := dk_21 5 (dk_at dksL_law_29 2 rfl rfl)
theorem dL_law_773 : decode cL_law 773 = .ok (.iconst 2, 1) := dk_5 (dk_at dksL_law_29 4 rfl rfl)
theorem dL_law_774 : decode cL_law 774 = .ok (.iadd, 1) := dk_96 (dk_at dksL_law_29 5 rfl rfl)
theorem dL_law_775 : decode cL_law 775 = .ok (.iaload, 1) := dk_46 (dk_at dksL_law_29 6 rfl rfl)
theorem dL_law_776 : decode cL_law 776 = .ok (.aload_n 3, 1) := dk_45 (dk_at dksL_law_29 7 rfl rfl)
theorem dL_law_777 : decode cL_law 777 = .ok (.invokestatic 127, 3) := dk_184 0 127 (dk_at dksL_law_29 8 rfl rfl)
theorem dL_law_780 : decode cL_law 780 = .ok (.istore 6, 2) := dk_54 6 (dk_at dksL_law_29 11 rfl rfl)
theorem dL_law_782 : decode cL_law 782 = .ok (.aload_n 2, 1) := dk_44 (dk_at dksL_law_29 13 rfl rfl)
theorem dL_law_783 : decode cL_law 783 = .ok (.aload_n 0, 1) := dk_42 (dk_at dksL_law_29 14 rfl rfl)
theorem dL_law_784 : decode cL_law 784 = .ok (.iload 5, 2) := dk_21 5 (dk_at dksL_law_29 15 rfl rfl)
theorem dL_law_786 : decode cL_law 786 = .ok (.iconst 1, 1) := dk_4 (dk_at dksL_law_29 17 rfl rfl)
theorem dL_law_787 : decode cL_law 787 = .ok (.iadd, 1) := dk_96 (dk_at dksL_law_29 18 rfl rfl)
theorem dL_law_788 : decode cL_law 788 = .ok (.iaload, 1) := dk_46 (dk_at dksL_law_29 19 rfl rfl)
theorem dL_law_789 : decode cL_law 789 = .ok (.aload_n 0, 1) := dk_42 (dk_at dksL_law_29 20 rfl rfl)
theorem dL_law_790 : decode cL_law 790 = .ok (.iload 5, 2) := dk_21 5 (dk_at dksL_law_29 21 rfl rfl)
theorem dL_law_792 : decode cL_law 792 = .ok (.iconst 2, 1) := dk_5 (dk_at dksL_law_29 23 rfl rfl)
theorem dL_law_793 : decode cL_law 793 = .ok (.iadd, 1) := dk_96 (dk_at dksL_law_30 0 rfl rfl)
theorem dL_law_794 : decode cL_law 794 = .ok (.iaload, 1) := dk_46 (dk_at dksL_law_30 1 rfl rfl)
theorem dL_law_795 : decode cL_law 795 = .ok (.invokevirtual 129, 3) := dk_182 0 129 (dk_at dksL_law_30 2 rfl rfl)
theorem dL_law_798 : decode cL_law 798 = .ok (.istore 7, 2) := dk_54 7 (dk_at dksL_law_30 5 rfl rfl)
theorem dL_law_800 : decode cL_law 800 = .ok (.aload_n 2, 1) := dk_44 (dk_at dksL_law_30 7 rfl rfl)
theorem dL_law_801 : decode cL_law 801 = .ok (.invokevirtual 99, 3) := dk_182 0 99 (dk_at dksL_law_30 8 rfl rfl)
theorem dL_law_804 : decode cL_law 804 = .ok (.iload 6, 2) := dk_21 6 (dk_at dksL_law_30 11 rfl rfl)
theorem dL_law_806 : decode cL_law 806 = .ok (.if_icmp .eq 5, 3) := dk_159 0 5 (dk_at dksL_law_30 13 rfl rfl)
theorem dL_law_809 : decode cL_law 809 = .ok (.iconst 0, 1) := dk_3 (dk_at dksL_law_30 16 rfl rfl)
theorem dL_law_810 : decode cL_law 810 = .ok (.ireturn, 1) := dk_172 (dk_at dksL_law_30 17 rfl rfl)
theorem dL_law_811 : decode cL_law 811 = .ok (.iload 6, 2) := dk_21 6 (dk_at dksL_law_30 18 rfl rfl)
theorem dL_law_813 : decode cL_law 813 = .ok (.ifCond .ne 15, 3) := dk_154 0 15 (dk_at dksL_law_30 20 rfl rfl)
theorem dL_law_816 : decode cL_law 816 = .ok (.aload_n 3, 1) := dk_45 (dk_at dksL_law_30 23 rfl rfl)
theorem dL_law_817 : decode cL_law 817 = .ok (.iconst 0, 1) := dk_3 (dk_at dksL_law_31 0 rfl rfl)
theorem dL_law_818 : decode cL_law 818 = .ok (.laload, 1) := dk_47 (dk_at dksL_law_31 1 rfl rfl)
theorem dL_law_819 : decode cL_law 819 = .ok (.iload 7, 2) := dk_21 7 (dk_at dksL_law_31 2 rfl rfl)
theorem dL_law_821 : decode cL_law 821 = .ok (.i2l, 1) := dk_133 (dk_at dksL_law_31 4 rfl rfl)
theorem dL_law_822 : decode cL_law 822 = .ok (.lcmp, 1) := dk_148 (dk_at dksL_law_31 5 rfl rfl)
theorem dL_law_823 : decode cL_law 823 = .ok (.ifCond .eq 5, 3) := dk_153 0 5 (dk_at dksL_law_31 6 rfl rfl)
theorem dL_law_826 : decode cL_law 826 = .ok (.iconst 0, 1) := dk_3 (dk_at dksL_law_31 9 rfl rfl)
theorem dL_law_827 : decode cL_law 827 = .ok (.ireturn, 1) := dk_172 (dk_at dksL_law_31 10 rfl rfl)
theorem dL_law_828 : decode cL_law 828 = .ok (.goto 863, 3) := dk_167 3 95 (dk_at dksL_law_31 11 rfl rfl)
theorem dL_law_831 : decode cL_law 831 = .ok (.aload_n 1, 1) := dk_43 (dk_at dksL_law_31 14 rfl rfl)
theorem dL_law_832 : decode cL_law 832 = .ok (.aload_n 0, 1) := dk_42 (dk_at dksL_law_31 15 rfl rfl)
theorem dL_law_833 : decode cL_law 833 = .ok (.iload 5, 2) := dk_21 5 (dk_at dksL_law_31 16 rfl rfl)
theorem dL_law_835 : decode cL_law 835 = .ok (.iconst 1, 1) := dk_4 (dk_at dksL_law_31 18 rfl rfl)
theorem dL_law_836 : decode cL_law 836 = .ok (.iadd, 1) := dk_96 (dk_at dksL_law_31 19 rfl rfl)
theorem dL_law_837 : decode cL_law 837 = .ok (.iaload, 1) := dk_46 (dk_at dksL_law_31 20 rfl rfl)
theorem dL_law_838 : decode cL_law 838 = .ok (.aload_n 3, 1) := dk_45 (dk_at dksL_law_31 21 rfl rfl)
theorem dL_law_839 : decode cL_law 839 = .ok (.invokestatic 130, 3) := dk_184 0 130 (dk_at dksL_law_32 0 rfl rfl)
theorem dL_law_842 : decode cL_law 842 = .ok (.istore 6, 2) := dk_54 6 (dk_at dksL_law_32 3 rfl rfl)
theorem dL_law_844 : decode cL_law 844 = .ok (.aload_n 2, 1) := dk_44 (dk_at dksL_law_32 5 rfl rfl)
theorem dL_law_845 : decode cL_law 845 = .ok (.aload_n 0, 1) := dk_42 (dk_at dksL_law_32 6 rfl rfl)
theorem dL_law_846 : decode cL_law 846 = .ok (.iload 5, 2) := dk_21 5 (dk_at dksL_law_32 7 rfl rfl)
theorem dL_law_848 : decode cL_law 848 = .ok (.iconst 1, 1) := dk_4 (dk_at dksL_law_32 9 rfl rfl)
theorem dL_law_849 : decode cL_law 849 = .ok (.iadd, 1) := dk_96 (dk_at dksL_law_32 10 rfl rfl)
theorem dL_law_850 : decode cL_law 850 = .ok (.iaload, 1) := dk_46 (dk_at dksL_law_32 11 rfl rfl)
theorem dL_law_851 : decode cL_law 851 = .ok (.invokevirtual 132, 3) := dk_182 0 132 (dk_at dksL_law_32 12 rfl rfl)
theorem dL_law_854 : decode cL_law 854 = .ok (.istore 7, 2) := dk_54 7 (dk_at dksL_law_32 15 rfl rfl)
theorem dL_law_856 : decode cL_law 856 = .ok (.aload_n 2, 1) := dk_44 (dk_at dksL_law_32 17 rfl rfl)
theorem dL_law_857 : decode cL_law 857 = .ok (.invokevirtual 99, 3) := dk_182 0 99 (dk_at dksL_law_32 18 rfl rfl)
theorem dL_law_860 : decode cL_law 860 = .ok (.iload 6, 2) := dk_21 6 (dk_at dksL_law_32 21 rfl rfl)
theorem dL_law_862 : decode cL_law 862 = .ok (.if_icmp .eq 5, 3) := dk_159 0 5 (dk_at dksL_law_33 0 rfl rfl)
theorem dL_law_865 : decode cL_law 865 = .ok (.iconst 0, 1) := dk_3 (dk_at dksL_law_33 3 rfl rfl)
theorem dL_law_866 : decode cL_law 866 = .ok (.ireturn, 1) := dk_172 (dk_at dksL_law_33 4 rfl rfl)
theorem dL_law_867 : decode cL_law 867 = .ok (.iload 6, 2) := dk_21 6 (dk_at dksL_law_33 5 rfl rfl)
theorem dL_law_869 : decode cL_law 869 = .ok (.ifCond .ne 15, 3) := dk_154 0 15 (dk_at dksL_law_33 7 rfl rfl)
theorem dL_law_872 : decode cL_law 872 = .ok (.aload_n 3, 1) := dk_45 (dk_at dksL_law_33 10 rfl rfl)
theorem dL_law_873 : decode cL_law 873 = .ok (.iconst 0, 1) := dk_3 (dk_at dksL_law_33 11 rfl rfl)
theorem dL_law_874 : decode cL_law 874 = .ok (.laload, 1) := dk_47 (dk_at dksL_law_33 12 rfl rfl)
theorem dL_law_875 : decode cL_law 875 = .ok (.iload 7, 2) := dk_21 7 (dk_at dksL_law_33 13 rfl rfl)
theorem dL_law_877 : decode cL_law 877 = .ok (.i2l, 1) := dk_133 (dk_at dksL_law_33 15 rfl rfl)
theorem dL_law_878 : decode cL_law 878 = .ok (.lcmp, 1) := dk_148 (dk_at dksL_law_33 16 rfl rfl)
theorem dL_law_879 : decode cL_law 879 = .ok (.ifCond .eq 5, 3) := dk_153 0 5 (dk_at dksL_law_33 17 rfl rfl)
theorem dL_law_882 : decode cL_law 882 = .ok (.iconst 0, 1) := dk_3 (dk_at dksL_law_33 20 rfl rfl)
theorem dL_law_883 : decode cL_law 883 = .ok (.ireturn, 1) := dk_172 (dk_at dksL_law_33 21 rfl rfl)
theorem dL_law_884 : decode cL_law 884 = .ok (.goto 807, 3) := dk_167 3 39 (dk_at dksL_law_34 0 rfl rfl)
theorem dL_law_887 : decode cL_law 887 = .ok (.aload_n 1, 1) := dk_43 (dk_at dksL_law_34 3 rfl rfl)
theorem dL_law_888 : decode cL_law 888 = .ok (.aload_n 0, 1) := dk_42 (dk_at dksL_law_34 4 rfl rfl)
theorem dL_law_889 : decode cL_law 889 = .ok (.iload 5, 2) := dk_21 5 (dk_at dksL_law_34 5 rfl rfl)
theorem dL_law_891 : decode cL_law 891 = .ok (.iconst 1, 1) := dk_4 (dk_at dksL_law_34 7 rfl rfl)
theorem dL_law_892 : decode cL_law 892 = .ok (.iadd, 1) := dk_96 (dk_at dksL_law_34 8 rfl rfl)
theorem dL_law_893 : decode cL_law 893 = .ok (.iaload, 1) := dk_46 (dk_at dksL_law_34 9 rfl rfl)
theorem dL_law_894 : decode cL_law 894 = .ok (.aload_n 3, 1) := dk_45 (dk_at dksL_law_34 10 rfl rfl)
theorem dL_law_895 : decode cL_law 895 = .ok (.invokestatic 133, 3) := dk_184 0 133 (dk_at dksL_law_34 11 rfl rfl)
theorem dL_law_898 : decode cL_law 898 = .ok (.istore 6, 2) := dk_54 6 (dk_at dksL_law_34 14 rfl rfl)
theorem dL_law_900 : decode cL_law 900 = .ok (.aload_n 2, 1) := dk_44 (dk_at dksL_law_34 16 rfl rfl)
theorem dL_law_901 : decode cL_law 901 = .ok (.aload_n 0, 1) := dk_42 (dk_at dksL_law_34 17 rfl rfl)
theorem dL_law_902 : decode cL_law 902 = .ok (.iload 5, 2) := dk_21 5 (dk_at dksL_law_34 18 rfl rfl)
theorem dL_law_904 : decode cL_law 904 = .ok (.iconst 1, 1) := dk_4 (dk_at dksL_law_34 20 rfl rfl)
theorem dL_law_905 : decode cL_law 905 = .ok (.iadd, 1) := dk_96 (dk_at dksL_law_34 21 rfl rfl)
theorem dL_law_906 : decode cL_law 906 = .ok (.iaload, 1) := dk_46 (dk_at dksL_law_34 22 rfl rfl)
theorem dL_law_907 : decode cL_law 907 = .ok (.invokevirtual 135, 3) := dk_182 0 135 (dk_at dksL_law_35 0 rfl rfl)
theorem dL_law_910 : decode cL_law 910 = .ok (.istore 7, 2) := dk_54 7 (dk_at dksL_law_35 3 rfl rfl)
theorem dL_law_912 : decode cL_law 912 = .ok (.aload_n 2, 1) := dk_44 (dk_at dksL_law_35 5 rfl rfl)
theorem dL_law_913 : decode cL_law 913 = .ok (.invokevirtual 99, 3) := dk_182 0 99 (dk_at dksL_law_35 6 rfl rfl)
theorem dL_law_916 : decode cL_law 916 = .ok (.iload 6, 2) := dk_21 6 (dk_at dksL_law_35 9 rfl rfl)
theorem dL_law_918 : decode cL_law 918 = .ok (.if_icmp .eq 5, 3) := dk_159 0 5 (dk_at dksL_law_35 11 rfl rfl)
theorem dL_law_921 : decode cL_law 921 = .ok (.iconst 0, 1) := dk_3 (dk_at dksL_law_35 14 rfl rfl)
theorem dL_law_922 : decode cL_law 922 = .ok (.ireturn, 1) := dk_172 (dk_at dksL_law_35 15 rfl rfl)
theorem dL_law_923 : decode cL_law 923 = .ok (.iload 6, 2) := dk_21 6 (dk_at dksL_law_35 16 rfl rfl)
theorem dL_law_925 : decode cL_law 925 = .ok (.ifCond .ne 15, 3) := dk_154 0 15 (dk_at dksL_law_35 18 rfl rfl)
theorem dL_law_928 : decode cL_law 928 = .ok (.aload_n 3, 1) := dk_45 (dk_at dksL_law_35 21 rfl rfl)
theorem dL_law_929 : decode cL_law 929 = .ok (.iconst 0, 1) := dk_3 (dk_at dksL_law_35 22 rfl rfl)
theorem dL_law_930 : decode cL_law 930 = .ok (.laload, 1) := dk_47 (dk_at dksL_law_35 23 rfl rfl)
theorem dL_law_931 : decode cL_law 931 = .ok (.iload 7, 2) := dk_21 7 (dk_at dksL_law_36 0 rfl rfl)
theorem dL_law_933 : decode cL_law 933 = .ok (.i2l, 1) := dk_133 (dk_at dksL_law_36 2 rfl rfl)
theorem dL_law_934 : decode cL_law 934 = .ok (.lcmp, 1) := dk_148 (dk_at dksL_law_36 3 rfl rfl)
theorem dL_law_935 : decode cL_law 935 = .ok (.ifCond .eq 5, 3) := dk_153 0 5 (dk_at dksL_law_36 4 rfl rfl)
theorem dL_law_938 : decode cL_law 938 = .ok (.iconst 0, 1) := dk_3 (dk_at dksL_law_36 7 rfl rfl)
theorem dL_law_939 : decode cL_law 939 = .ok (.ireturn, 1) := dk_172 (dk_at dksL_law_36 8 rfl rfl)
theorem dL_law_940 : decode cL_law 940 = .ok (.goto 751, 3) := dk_167 2 239 (dk_at dksL_law_36 9 rfl rfl)
theorem dL_law_943 : decode cL_law 943 = .ok (.aload_n 1, 1) := dk_43 (dk_at dksL_law_36 12 rfl rfl)
theorem dL_law_944 : decode cL_law 944 = .ok (.aload_n 0, 1) := dk_42 (dk_at dksL_law_36 13 rfl rfl)
theorem dL_law_945 : decode cL_law 945 = .ok (.iload 5, 2) := dk_21 5 (dk_at dksL_law_36 14 rfl rfl)
theorem dL_law_947 : decode cL_law 947 = .ok (.iconst 1, 1) := dk_4 (dk_at dksL_law_36 16 rfl rfl)
theorem dL_law_948 : decode cL_law 948 = .ok (.iadd, 1) := dk_96 (dk_at dksL_law_36 17 rfl rfl)
theorem dL_law_949 : decode cL_law 949 = .ok (.iaload, 1) := dk_46 (dk_at dksL_law_36 18 rfl rfl)
theorem dL_law_950 : decode cL_law 950 = .ok (.aload_n 0, 1) := dk_42 (dk_at dksL_law_36 19 rfl rfl)
theorem dL_law_951 : decode cL_law 951 = .ok (.iload 5, 2) := dk_21 5 (dk_at dksL_law_36 20 rfl rfl)
theorem dL_law_953 : decode cL_law 953 = .ok (.iconst 2, 1) := dk_5 (dk_at dksL_law_36 22 rfl rfl)
theorem dL_law_954 : decode cL_law 954 = .ok (.iadd, 1) := dk_96 (dk_at dksL_law_36 23 rfl rfl)
theorem dL_law_955 : decode cL_law 955 = .ok (.iaload, 1) := dk_46 (dk_at dksL_law_37 0 rfl rfl)
theorem dL_law_956 : decode cL_law 956 = .ok (.aload_n 3, 1) := dk_45 (dk_at dksL_law_37 1 rfl rfl)
theorem dL_law_957 : decode cL_law 957 = .ok (.invokestatic 136, 3) := dk_184 0 136 (dk_at dksL_law_37 2 rfl rfl)
theorem dL_law_960 : decode cL_law 960 = .ok (.istore 6, 2) := dk_54 6 (dk_at dksL_law_37 5 rfl rfl)
theorem dL_law_962 : decode cL_law 962 = .ok (.aload_n 2, 1) := dk_44 (dk_at dksL_law_37 7 rfl rfl)
theorem dL_law_963 : decode cL_law 963 = .ok (.aload_n 0, 1) := dk_42 (dk_at dksL_law_37 8 rfl rfl)
theorem dL_law_964 : decode cL_law 964 = .ok (.iload 5, 2) := dk_21 5 (dk_at dksL_law_37 9 rfl rfl)
theorem dL_law_966 : decode cL_law 966 = .ok (.iconst 1, 1) := dk_4 (dk_at dksL_law_37 11 rfl rfl)
theorem dL_law_967 : decode cL_law 967 = .ok (.iadd, 1) := dk_96 (dk_at dksL_law_37 12 rfl rfl)
theorem dL_law_968 : decode cL_law 968 = .ok (.iaload, 1) := dk_46 (dk_at dksL_law_37 13 rfl rfl)
theorem dL_law_969 : decode cL_law 969 = .ok (.aload_n 0, 1) := dk_42 (dk_at dksL_law_37 14 rfl rfl)
theorem dL_law_970 : decode cL_law 970 = .ok (.iload 5, 2) := dk_21 5 (dk_at dksL_law_37 15 rfl rfl)
theorem dL_law_972 : decode cL_law 972 = .ok (.iconst 2, 1) := dk_5 (dk_at dksL_law_37 17 rfl rfl)
theorem dL_law_973 : decode cL_law 973 = .ok (.iadd, 1) := dk_96 (dk_at dksL_law_37 18 rfl rfl)
theorem dL_law_974 : decode cL_law 974 = .ok (.iaload, 1) := dk_46 (dk_at dksL_law_37 19 rfl rfl)
theorem dL_law_975 : decode cL_law 975 = .ok (.invokevirtual 138, 3) := dk_182 0 138 (dk_at dksL_law_37 20 rfl rfl)
theorem dL_law_978 : decode cL_law 978 = .ok (.istore 7, 2) := dk_54 7 (dk_at dksL_law_38 0 rfl rfl)
theorem dL_law_980 : decode cL_law 980 = .ok (.aload_n 2, 1) := dk_44 (dk_at dksL_law_38 2 rfl rfl)
theorem dL_law_981 : decode cL_law 981 = .ok (.invokevirtual 99, 3) := dk_182 0 99 (dk_at dksL_law_38 3 rfl rfl)
theorem dL_law_984 : decode cL_law 984 = .ok (.iload 6, 2) := dk_21 6 (dk_at dksL_law_38 6 rfl rfl)
theorem dL_law_986 : decode cL_law 986 = .ok (.if_icmp .eq 5, 3) := dk_159 0 5 (dk_at dksL_law_38 8 rfl rfl)
theorem dL_law_989 : decode cL_law 989 = .ok (.iconst 0, 1) := dk_3 (dk_at dksL_law_38 11 rfl rfl)
theorem dL_law_990 : decode cL_law 990 = .ok (.ireturn, 1) := dk_172 (dk_at dksL_law_38 12 rfl rfl)
theorem dL_law_991 : decode cL_law 991 = .ok (.iload 6, 2) := dk_21 6 (dk_at dksL_law_38 13 rfl rfl)
theorem dL_law_993 : decode cL_law 993 = .ok (.ifCond .ne 15, 3) := dk_154 0 15 (dk_at dksL_law_38 15 rfl rfl)
theorem dL_law_996 : decode cL_law 996 = .ok (.aload_n 3, 1) := dk_45 (dk_at dksL_law_38 18 rfl rfl)
theorem dL_law_997 : decode cL_law 997 = .ok (.iconst 0, 1) := dk_3 (dk_at dksL_law_38 19 rfl rfl)
theorem dL_law_998 : decode cL_law 998 = .ok (.laload, 1) := dk_47 (dk_at dksL_law_38 20 rfl rfl)
theorem dL_law_999 : decode cL_law 999 = .ok (.iload 7, 2) := dk_21 7 (dk_at dksL_law_38 21 rfl rfl)
theorem dL_law_1001 : decode cL_law 1001 = .ok (.i2l, 1) := dk_133 (dk_at dksL_law_38 23 rfl rfl)
theorem dL_law_1002 : decode cL_law 1002 = .ok (.lcmp, 1) := dk_148 (dk_at dksL_law_39 0 rfl rfl)
theorem dL_law_1003 : decode cL_law 1003 = .ok (.ifCond .eq 5, 3) := dk_153 0 5 (dk_at dksL_law_39 1 rfl rfl)
theorem dL_law_1006 : decode cL_law 1006 = .ok (.iconst 0, 1) := dk_3 (dk_at dksL_law_39 4 rfl rfl)
theorem dL_law_1007 : decode cL_law 1007 = .ok (.ireturn, 1) := dk_172 (dk_at dksL_law_39 5 rfl rfl)
theorem dL_law_1008 : decode cL_law 1008 = .ok (.goto 683, 3) := dk_167 2 171 (dk_at dksL_law_39 6 rfl rfl)
theorem dL_law_1011 : decode cL_law 1011 = .ok (.aload_n 1, 1) := dk_43 (dk_at dksL_law_39 9 rfl rfl)
theorem dL_law_1012 : decode cL_law 1012 = .ok (.aload_n 0, 1) := dk_42 (dk_at dksL_law_39 10 rfl rfl)
theorem dL_law_1013 : decode cL_law 1013 = .ok (.iload 5, 2) := dk_21 5 (dk_at dksL_law_39 11 rfl rfl)
theorem dL_law_1015 : decode cL_law 1015 = .ok (.iconst 1, 1) := dk_4 (dk_at dksL_law_39 13 rfl rfl)
theorem dL_law_1016 : decode cL_law 1016 = .ok (.iadd, 1) := dk_96 (dk_at dksL_law_39 14 rfl rfl)
theorem dL_law_1017 : decode cL_law 1017 = .ok (.iaload, 1) := dk_46 (dk_at dksL_law_39 15 rfl rfl)
theorem dL_law_1018 : decode cL_law 1018 = .ok (.aload_n 3, 1) := dk_45 (dk_at dksL_law_39 16 rfl rfl)
theorem dL_law_1019 : decode cL_law 1019 = .ok (.invokestatic 139, 3) := dk_184 0 139 (dk_at dksL_law_39 17 rfl rfl)
theorem dL_law_1022 : decode cL_law 1022 = .ok (.istore 6, 2) := dk_54 6 (dk_at dksL_law_39 20 rfl rfl)
theorem dL_law_1024 : decode cL_law 1024 = .ok (.aload_n 2, 1) := dk_44 (dk_at dksL_law_39 22 rfl rfl)
theorem dL_law_1025 : decode cL_law 1025 = .ok (.aload_n 0, 1) := dk_42 (dk_at dksL_law_39 23 rfl rfl)
theorem dL_law_1026 : decode cL_law 1026 = .ok (.iload 5, 2) := dk_21 5 (dk_at dksL_law_40 0 rfl rfl)
theorem dL_law_1028 : decode cL_law 1028 = .ok (.iconst 1, 1) := dk_4 (dk_at dksL_law_40 2 rfl rfl)
theorem dL_law_1029 : decode cL_law 1029 = .ok (.iadd, 1) := dk_96 (dk_at dksL_law_40 3 rfl rfl)
theorem dL_law_1030 : decode cL_law 1030 = .ok (.iaload, 1) := dk_46 (dk_at dksL_law_40 4 rfl rfl)
theorem dL_law_1031 : decode cL_law 1031 = .ok (.invokevirtual 141, 3) := dk_182 0 141 (dk_at dksL_law_40 5 rfl rfl)
theorem dL_law_1034 : decode cL_law 1034 = .ok (.lstore 7, 2) := dk_55 7 (dk_at dksL_law_40 8 rfl rfl)
theorem dL_law_1036 : decode cL_law 1036 = .ok (.aload_n 2, 1) := dk_44 (dk_at dksL_law_40 10 rfl rfl)
theorem dL_law_1037 : decode cL_law 1037 = .ok (.invokevirtual 99, 3) := dk_182 0 99 (dk_at dksL_law_40 11 rfl rfl)
theorem dL_law_1040 : decode cL_law 1040 = .ok (.iload 6, 2) := dk_21 6 (dk_at dksL_law_40 14 rfl rfl)
theorem dL_law_1042 : decode cL_law 1042 = .ok (.if_icmp .eq 5, 3) := dk_159 0 5 (dk_at dksL_law_40 16 rfl rfl)
theorem dL_law_1045 : decode cL_law 1045 = .ok (.iconst 0, 1) := dk_3 (dk_at dksL_law_40 19 rfl rfl)
theorem dL_law_1046 : decode cL_law 1046 = .ok (.ireturn, 1) := dk_172 (dk_at dksL_law_40 20 rfl rfl)
theorem dL_law_1047 : decode cL_law 1047 = .ok (.iload 6, 2) := dk_21 6 (dk_at dksL_law_40 21 rfl rfl)
theorem dL_law_1049 : decode cL_law 1049 = .ok (.ifCond .ne 14, 3) := dk_154 0 14 (dk_at dksL_law_41 0 rfl rfl)
theorem dL_law_1052 : decode cL_law 1052 = .ok (.aload_n 3, 1) := dk_45 (dk_at dksL_law_41 3 rfl rfl)
theorem dL_law_1053 : decode cL_law 1053 = .ok (.iconst 0, 1) := dk_3 (dk_at dksL_law_41 4 rfl rfl)
theorem dL_law_1054 : decode cL_law 1054 = .ok (.laload, 1) := dk_47 (dk_at dksL_law_41 5 rfl rfl)
theorem dL_law_1055 : decode cL_law 1055 = .ok (.lload 7, 2) := dk_22 7 (dk_at dksL_law_41 6 rfl rfl)
theorem dL_law_1057 : decode cL_law 1057 = .ok (.lcmp, 1) := dk_148 (dk_at dksL_law_41 8 rfl rfl)
theorem dL_law_1058 : decode cL_law 1058 = .ok (.ifCond .eq 5, 3) := dk_153 0 5 (dk_at dksL_law_41 9 rfl rfl)
theorem dL_law_1061 : decode cL_law 1061 = .ok (.iconst 0, 1) := dk_3 (dk_at dksL_law_41 12 rfl rfl)
theorem dL_law_1062 : decode cL_law 1062 = .ok (.ireturn, 1) := dk_172 (dk_at dksL_law_41 13 rfl rfl)
theorem dL_law_1063 : decode cL_law 1063 = .ok (.goto 628, 3) := dk_167 2 116 (dk_at dksL_law_41 14 rfl rfl)
theorem dL_law_1066 : decode cL_law 1066 = .ok (.aload_n 1, 1) := dk_43 (dk_at dksL_law_41 17 rfl rfl)
theorem dL_law_1067 : decode cL_law 1067 = .ok (.aload_n 0, 1) := dk_42 (dk_at dksL_law_41 18 rfl rfl)
theorem dL_law_1068 : decode cL_law 1068 = .ok (.iload 5, 2) := dk_21 5 (dk_at dksL_law_41 19 rfl rfl)
theorem dL_law_1070 : decode cL_law 1070 = .ok (.iconst 1, 1) := dk_4 (dk_at dksL_law_41 21 rfl rfl)
theorem dL_law_1071 : decode cL_law 1071 = .ok (.iadd, 1) := dk_96 (dk_at dksL_law_41 22 rfl rfl)
theorem dL_law_1072 : decode cL_law 1072 = .ok (.iaload, 1) := dk_46 (dk_at dksL_law_41 23 rfl rfl)
theorem dL_law_1073 : decode cL_law 1073 = .ok (.aload_n 0, 1) := dk_42 (dk_at dksL_law_42 0 rfl rfl)
theorem dL_law_1074 : decode cL_law 1074 = .ok (.iload 5, 2) := dk_21 5 (dk_at dksL_law_42 1 rfl rfl)
theorem dL_law_1076 : decode cL_law 1076 = .ok (.iconst 2, 1) := dk_5 (dk_at dksL_law_42 3 rfl rfl)
theorem dL_law_1077 : decode cL_law 1077 = .ok (.iadd, 1) := dk_96 (dk_at dksL_law_42 4 rfl rfl)
theorem dL_law_1078 : decode cL_law 1078 = .ok (.iaload, 1) := dk_46 (dk_at dksL_law_42 5 rfl rfl)
theorem dL_law_1079 : decode cL_law 1079 = .ok (.aload_n 3, 1) := dk_45 (dk_at dksL_law_42 6 rfl rfl)
theorem dL_law_1080 : decode cL_law 1080 = .ok (.invokestatic 142, 3) := dk_184 0 142 (dk_at dksL_law_42 7 rfl rfl)
theorem dL_law_1083 : decode cL_law 1083 = .ok (.istore 6, 2) := dk_54 6 (dk_at dksL_law_42 10 rfl rfl)
theorem dL_law_1085 : decode cL_law 1085 = .ok (.aload_n 2, 1) := dk_44 (dk_at dksL_law_42 12 rfl rfl)
theorem dL_law_1086 : decode cL_law 1086 = .ok (.aload_n 0, 1) := dk_42 (dk_at dksL_law_42 13 rfl rfl)
theorem dL_law_1087 : decode cL_law 1087 = .ok (.iload 5, 2) := dk_21 5 (dk_at dksL_law_42 14 rfl rfl)
theorem dL_law_1089 : decode cL_law 1089 = .ok (.iconst 1, 1) := dk_4 (dk_at dksL_law_42 16 rfl rfl)
theorem dL_law_1090 : decode cL_law 1090 = .ok (.iadd, 1) := dk_96 (dk_at dksL_law_42 17 rfl rfl)
theorem dL_law_1091 : decode cL_law 1091 = .ok (.iaload, 1) := dk_46 (dk_at dksL_law_42 18 rfl rfl)
theorem dL_law_1092 : decode cL_law 1092 = .ok (.aload_n 0, 1) := dk_42 (dk_at dksL_law_42 19 rfl rfl)
theorem dL_law_1093 : decode cL_law 1093 = .ok (.iload 5, 2) := dk_21 5 (dk_at dksL_law_42 20 rfl rfl)
theorem dL_law_1095 : decode cL_law 1095 = .ok (.iconst 2, 1) := dk_5 (dk_at dksL_law_42 22 rfl rfl)
theorem dL_law_1096 : decode cL_law 1096 = .ok (.iadd, 1) := dk_96 (dk_at dksL_law_42 23 rfl rfl)
theorem dL_law_1097 : decode cL_law 1097 = .ok (.iaload, 1) := dk_46 (dk_at dksL_law_43 0 rfl rfl)
theorem dL_law_1098 : decode cL_law 1098 = .ok (.invokevirtual 144, 3) := dk_182 0 144 (dk_at dksL_law_43 1 rfl rfl)
theorem dL_law_1101 : decode cL_law 1101 = .ok (.istore 7, 2) := dk_54 7 (dk_at dksL_law_43 4 rfl rfl)
theorem dL_law_1103 : decode cL_law 1103 = .ok (.aload_n 2, 1) := dk_44 (dk_at dksL_law_43 6 rfl rfl)
theorem dL_law_1104 : decode cL_law 1104 = .ok (.invokevirtual 99, 3) := dk_182 0 99 (dk_at dksL_law_43 7 rfl rfl)
theorem dL_law_1107 : decode cL_law 1107 = .ok (.iload 6, 2) := dk_21 6 (dk_at dksL_law_43 10 rfl rfl)
theorem dL_law_1109 : decode cL_law 1109 = .ok (.if_icmp .eq 5, 3) := dk_159 0 5 (dk_at dksL_law_43 12 rfl rfl)
theorem dL_law_1112 : decode cL_law 1112 = .ok (.iconst 0, 1) := dk_3 (dk_at dksL_law_43 15 rfl rfl)
theorem dL_law_1113 : decode cL_law 1113 = .ok (.ireturn, 1) := dk_172 (dk_at dksL_law_43 16 rfl rfl)
theorem dL_law_1114 : decode cL_law 1114 = .ok (.iload 6, 2) := dk_21 6 (dk_at dksL_law_43 17 rfl rfl)
theorem dL_law_1116 : decode cL_law 1116 = .ok (.ifCond .ne 15, 3) := dk_154 0 15 (dk_at dksL_law_43 19 rfl rfl)
theorem dL_law_1119 : decode cL_law 1119 = .ok (.aload_n 3, 1) := dk_45 (dk_at dksL_law_43 22 rfl rfl)
theorem dL_law_1120 : decode cL_law 1120 = .ok (.iconst 0, 1) := dk_3 (dk_at dksL_law_43 23 rfl rfl)
theorem dL_law_1121 : decode cL_law 1121 = .ok (.laload, 1) := dk_47 (dk_at dksL_law_44 0 rfl rfl)
theorem dL_law_1122 : decode cL_law 1122 = .ok (.iload 7, 2) := dk_21 7 (dk_at dksL_law_44 1 rfl rfl)
theorem dL_law_1124 : decode cL_law 1124 = .ok (.i2l, 1) := dk_133 (dk_at dksL_law_44 3 rfl rfl)
theorem dL_law_1125 : decode cL_law 1125 = .ok (.lcmp, 1) := dk_148 (dk_at dksL_law_44 4 rfl rfl)
theorem dL_law_1126 : decode cL_law 1126 = .ok (.ifCond .eq 5, 3) := dk_153 0 5 (dk_at dksL_law_44 5 rfl rfl)
theorem dL_law_1129 : decode cL_law 1129 = .ok (.iconst 0, 1) := dk_3 (dk_at dksL_law_44 8 rfl rfl)
theorem dL_law_1130 : decode cL_law 1130 = .ok (.ireturn, 1) := dk_172 (dk_at dksL_law_44 9 rfl rfl)
theorem dL_law_1131 : decode cL_law 1131 = .ok (.goto 560, 3) := dk_167 2 48 (dk_at dksL_law_44 10 rfl rfl)
theorem dL_law_1134 : decode cL_law 1134 = .ok (.aload_n 1, 1) := dk_43 (dk_at dksL_law_44 13 rfl rfl)
theorem dL_law_1135 : decode cL_law 1135 = .ok (.aload_n 0, 1) := dk_42 (dk_at dksL_law_44 14 rfl rfl)
theorem dL_law_1136 : decode cL_law 1136 = .ok (.iload 5, 2) := dk_21 5 (dk_at dksL_law_44 15 rfl rfl)
theorem dL_law_1138 : decode cL_law 1138 = .ok (.iconst 1, 1) := dk_4 (dk_at dksL_law_44 17 rfl rfl)
theorem dL_law_1139 : decode cL_law 1139 = .ok (.iadd, 1) := dk_96 (dk_at dksL_law_44 18 rfl rfl)
theorem dL_law_1140 : decode cL_law 1140 = .ok (.iaload, 1) := dk_46 (dk_at dksL_law_44 19 rfl rfl)
theorem dL_law_1141 : decode cL_law 1141 = .ok (.aload_n 3, 1) := dk_45 (dk_at dksL_law_44 20 rfl rfl)
theorem dL_law_1142 : decode cL_law 1142 = .ok (.invokestatic 145, 3) := dk_184 0 145 (dk_at dksL_law_44 21 rfl rfl)
theorem dL_law_1145 : decode cL_law 1145 = .ok (.istore 6, 2) := dk_54 6 (dk_at dksL_law_45 0 rfl rfl)
theorem dL_law_1147 : decode cL_law 1147 = .ok (.aload_n 2, 1) := dk_44 (dk_at dksL_law_45 2 rfl rfl)
theorem dL_law_1148 : decode cL_law 1148 = .ok (.aload_n 0, 1) := dk_42 (dk_at dksL_law_45 3 rfl rfl)
theorem dL_law_1149 : decode cL_law 1149 = .ok (.iload 5, 2) := dk_21 5 (dk_at dksL_law_45 4 rfl rfl)
theorem dL_law_1151 : decode cL_law 1151 = .ok (.iconst 1, 1) := dk_4 (dk_at dksL_law_45 6 rfl rfl)
theorem dL_law_1152 : decode cL_law 1152 = .ok (.iadd, 1) := dk_96 (dk_at dksL_law_45 7 rfl rfl)
theorem dL_law_1153 : decode cL_law 1153 = .ok (.iaload, 1) := dk_46 (dk_at dksL_law_45 8 rfl rfl)
theorem dL_law_1154 : decode cL_law 1154 = .ok (.invokevirtual 147, 3) := dk_182 0 147 (dk_at dksL_law_45 9 rfl rfl)
theorem dL_law_1157 : decode cL_law 1157 = .ok (.lstore 7, 2) := dk_55 7 (dk_at dksL_law_45 12 rfl rfl)
theorem dL_law_1159 : decode cL_law 1159 = .ok (.aload_n 2, 1) := dk_44 (dk_at dksL_law_45 14 rfl rfl)
theorem dL_law_1160 : decode cL_law 1160 = .ok (.invokevirtual 99, 3) := dk_182 0 99 (dk_at dksL_law_45 15 rfl rfl)
theorem dL_law_1163 : decode cL_law 1163 = .ok (.iload 6, 2) := dk_21 6 (dk_at dksL_law_45 18 rfl rfl)
theorem dL_law_1165 : decode cL_law 1165 = .ok (.if_icmp .eq 5, 3) := dk_159 0 5 (dk_at dksL_law_45 20 rfl rfl)
theorem dL_law_1168 : decode cL_law 1168 = .ok (.iconst 0, 1) := dk_3 (dk_at dksL_law_45 23 rfl rfl)
theorem dL_law_1169 : decode cL_law 1169 = .ok (.ireturn, 1) := dk_172 (dk_at dksL_law_46 0 rfl rfl)
theorem dL_law_1170 : decode cL_law 1170 = .ok (.iload 6, 2) := dk_21 6 (dk_at dksL_law_46 1 rfl rfl)
theorem dL_law_1172 : decode cL_law 1172 = .ok (.ifCond .ne 14, 3) := dk_154 0 14 (dk_at dksL_law_46 3 rfl rfl)
theorem dL_law_1175 : decode cL_law 1175 = .ok (.aload_n 3, 1) := dk_45 (dk_at dksL_law_46 6 rfl rfl)
theorem dL_law_1176 : decode cL_law 1176 = .ok (.iconst 0, 1) := dk_3 (dk_at dksL_law_46 7 rfl rfl)
theorem dL_law_1177 : decode cL_law 1177 = .ok (.laload, 1) := dk_47 (dk_at dksL_law_46 8 rfl rfl)
theorem dL_law_1178 : decode cL_law 1178 = .ok (.lload 7, 2) := dk_22 7 (dk_at dksL_law_46 9 rfl rfl)
theorem dL_law_1180 : decode cL_law 1180 = .ok (.lcmp, 1) := dk_148 (dk_at dksL_law_46 11 rfl rfl)
theorem dL_law_1181 : decode cL_law 1181 = .ok (.ifCond .eq 5, 3) := dk_153 0 5 (dk_at dksL_law_46 12 rfl rfl)
theorem dL_law_1184 : decode cL_law 1184 = .ok (.iconst 0, 1) := dk_3 (dk_at dksL_law_46 15 rfl rfl)
theorem dL_law_1185 : decode cL_law 1185 = .ok (.ireturn, 1) := dk_172 (dk_at dksL_law_46 16 rfl rfl)
theorem dL_law_1186 : decode cL_law 1186 = .ok (.goto 505, 3) := dk_167 1 249 (dk_at dksL_law_46 17 rfl rfl)
theorem dL_law_1189 : decode cL_law 1189 = .ok (.aload_n 1, 1) := dk_43 (dk_at dksL_law_46 20 rfl rfl)
theorem dL_law_1190 : decode cL_law 1190 = .ok (.aload_n 0, 1) := dk_42 (dk_at dksL_law_46 21 rfl rfl)
theorem dL_law_1191 : decode cL_law 1191 = .ok (.iload 5, 2) := dk_21 5 (dk_at dksL_law_46 22 rfl rfl)
theorem dL_law_1193 : decode cL_law 1193 = .ok (.iconst 1, 1) := dk_4 (dk_at dksL_law_47 0 rfl rfl)
theorem dL_law_1194 : decode cL_law 1194 = .ok (.iadd, 1) := dk_96 (dk_at dksL_law_47 1 rfl rfl)
theorem dL_law_1195 : decode cL_law 1195 = .ok (.iaload, 1) := dk_46 (dk_at dksL_law_47 2 rfl rfl)
theorem dL_law_1196 : decode cL_law 1196 = .ok (.aload_n 0, 1) := dk_42 (dk_at dksL_law_47 3 rfl rfl)
theorem dL_law_1197 : decode cL_law 1197 = .ok (.iload 5, 2) := dk_21 5 (dk_at dksL_law_47 4 rfl rfl)
theorem dL_law_1199 : decode cL_law 1199 = .ok (.iconst 2, 1) := dk_5 (dk_at dksL_law_47 6 rfl rfl)
theorem dL_law_1200 : decode cL_law 1200 = .ok (.iadd, 1) := dk_96 (dk_at dksL_law_47 7 rfl rfl)
theorem dL_law_1201 : decode cL_law 1201 = .ok (.iaload, 1) := dk_46 (dk_at dksL_law_47 8 rfl rfl)
theorem dL_law_1202 : decode cL_law 1202 = .ok (.aload_n 3, 1) := dk_45 (dk_at dksL_law_47 9 rfl rfl)
theorem dL_law_1203 : decode cL_law 1203 = .ok (.invokestatic 148, 3) := dk_184 0 148 (dk_at dksL_law_47 10 rfl rfl)
theorem dL_law_1206 : decode cL_law 1206 = .ok (.istore 6, 2) := dk_54 6 (dk_at dksL_law_47 13 rfl rfl)
theorem dL_law_1208 : decode cL_law 1208 = .ok (.aload_n 2, 1) := dk_44 (dk_at dksL_law_47 15 rfl rfl)
theorem dL_law_1209 : decode cL_law 1209 = .ok (.aload_n 0, 1) := dk_42 (dk_at dksL_law_47 16 rfl rfl)
theorem dL_law_1210 : decode cL_law 1210 = .ok (.iload 5, 2) := dk_21 5 (dk_at dksL_law_47 17 rfl rfl)
theorem dL_law_1212 : decode cL_law 1212 = .ok (.iconst 1, 1) := dk_4 (dk_at dksL_law_47 19 rfl rfl)
theorem dL_law_1213 : decode cL_law 1213 = .ok (.iadd, 1) := dk_96 (dk_at dksL_law_47 20 rfl rfl)
theorem dL_law_1214 : decode cL_law 1214 = .ok (.iaload, 1) := dk_46 (dk_at dksL_law_47 21 rfl rfl)
theorem dL_law_1215 : decode cL_law 1215 = .ok (.aload_n 0, 1) := dk_42 (dk_at dksL_law_47 22 rfl rfl)
theorem dL_law_1216 : decode cL_law 1216 = .ok (.iload 5, 2) := dk_21 5 (dk_at dksL_law_48 0 rfl rfl)
theorem dL_law_1218 : decode cL_law 1218 = .ok (.iconst 2, 1) := dk_5 (dk_at dksL_law_48 2 rfl rfl)
theorem dL_law_1219 : decode cL_law 1219 = .ok (.iadd, 1) := dk_96 (dk_at dksL_law_48 3 rfl rfl)
theorem dL_law_1220 : decode cL_law 1220 = .ok (.iaload, 1) := dk_46 (dk_at dksL_law_48 4 rfl rfl)
theorem dL_law_1221 : decode cL_law 1221 = .ok (.invokevirtual 150, 3) := dk_182 0 150 (dk_at dksL_law_48 5 rfl rfl)
theorem dL_law_1224 : decode cL_law 1224 = .ok (.istore 7, 2) := dk_54 7 (dk_at dksL_law_48 8 rfl rfl)
theorem dL_law_1226 : decode cL_law 1226 = .ok (.aload_n 2, 1) := dk_44 (dk_at dksL_law_48 10 rfl rfl)
theorem dL_law_1227 : decode cL_law 1227 = .ok (.invokevirtual 99, 3) := dk_182 0 99 (dk_at dksL_law_48 11 rfl rfl)
theorem dL_law_1230 : decode cL_law 1230 = .ok (.iload 6, 2) := dk_21 6 (dk_at dksL_law_48 14 rfl rfl)
theorem dL_law_1232 : decode cL_law 1232 = .ok (.if_icmp .eq 5, 3) := dk_159 0 5 (dk_at dksL_law_48 16 rfl rfl)
theorem dL_law_1235 : decode cL_law 1235 = .ok (.iconst 0, 1) := dk_3 (dk_at dksL_law_48 19 rfl rfl)
theorem dL_law_1236 : decode cL_law 1236 = .ok (.ireturn, 1) := dk_172 (dk_at dksL_law_48 20 rfl rfl)
theorem dL_law_1237 : decode cL_law 1237 = .ok (.iload 6, 2) := dk_21 6 (dk_at dksL_law_48 21 rfl rfl)
theorem dL_law_1239 : decode cL_law 1239 = .ok (.ifCond .ne 15, 3) := dk_154 0 15 (dk_at dksL_law_49 0 rfl rfl)
theorem dL_law_1242 : decode cL_law 1242 = .ok (.aload_n 3, 1) := dk_45 (dk_at dksL_law_49 3 rfl rfl)
theorem dL_law_1243 : decode cL_law 1243 = .ok (.iconst 0, 1) := dk_3 (dk_at dksL_law_49 4 rfl rfl)
theorem dL_law_1244 : decode cL_law 1244 = .ok (.laload, 1) := dk_47 (dk_at dksL_law_49 5 rfl rfl)
theorem dL_law_1245 : decode cL_law 1245 = .ok (.iload 7, 2) := dk_21 7 (dk_at dksL_law_49 6 rfl rfl)
theorem dL_law_1247 : decode cL_law 1247 = .ok (.i2l, 1) := dk_133 (dk_at dksL_law_49 8 rfl rfl)
theorem dL_law_1248 : decode cL_law 1248 = .ok (.lcmp, 1) := dk_148 (dk_at dksL_law_49 9 rfl rfl)
theorem dL_law_1249 : decode cL_law 1249 = .ok (.ifCond .eq 5, 3) := dk_153 0 5 (dk_at dksL_law_49 10 rfl rfl)
theorem dL_law_1252 : decode cL_law 1252 = .ok (.iconst 0, 1) := dk_3 (dk_at dksL_law_49 13 rfl rfl)
theorem dL_law_1253 : decode cL_law 1253 = .ok (.ireturn, 1) := dk_172 (dk_at dksL_law_49 14 rfl rfl)
theorem dL_law_1254 : decode cL_law 1254 = .ok (.goto 437, 3) := dk_167 1 181 (dk_at dksL_law_49 15 rfl rfl)
theorem dL_law_1257 : decode cL_law 1257 = .ok (.aload_n 1, 1) := dk_43 (dk_at dksL_law_49 18 rfl rfl)
theorem dL_law_1258 : decode cL_law 1258 = .ok (.aload_n 0, 1) := dk_42 (dk_at dksL_law_49 19 rfl rfl)
theorem dL_law_1259 : decode cL_law 1259 = .ok (.iload 5, 2) := dk_21 5 (dk_at dksL_law_49 20 rfl rfl)
theorem dL_law_1261 : decode cL_law 1261 = .ok (.iconst 1, 1) := dk_4 (dk_at dksL_law_49 22 rfl rfl)
theorem dL_law_1262 : decode cL_law 1262 = .ok (.iadd, 1) := dk_96 (dk_at dksL_law_49 23 rfl rfl)
theorem dL_law_1263 : decode cL_law 1263 = .ok (.iaload, 1) := dk_46 (dk_at dksL_law_50 0 rfl rfl)
theorem dL_law_1264 : decode cL_law 1264 = .ok (.aload 4, 2) := dk_25 4 (dk_at dksL_law_50 1 rfl rfl)
theorem dL_law_1266 : decode cL_law 1266 = .ok (.invokestatic 151, 3) := dk_184 0 151 (dk_at dksL_law_50 3 rfl rfl)
theorem dL_law_1269 : decode cL_law 1269 = .ok (.istore 6, 2) := dk_54 6 (dk_at dksL_law_50 6 rfl rfl)
theorem dL_law_1271 : decode cL_law 1271 = .ok (.aload_n 2, 1) := dk_44 (dk_at dksL_law_50 8 rfl rfl)
theorem dL_law_1272 : decode cL_law 1272 = .ok (.aload_n 0, 1) := dk_42 (dk_at dksL_law_50 9 rfl rfl)
theorem dL_law_1273 : decode cL_law 1273 = .ok (.iload 5, 2) := dk_21 5 (dk_at dksL_law_50 10 rfl rfl)
theorem dL_law_1275 : decode cL_law 1275 = .ok (.iconst 1, 1) := dk_4 (dk_at dksL_law_50 12 rfl rfl)
theorem dL_law_1276 : decode cL_law 1276 = .ok (.iadd, 1) := dk_96 (dk_at dksL_law_50 13 rfl rfl)
theorem dL_law_1277 : decode cL_law 1277 = .ok (.iaload, 1) := dk_46 (dk_at dksL_law_50 14 rfl rfl)
theorem dL_law_1278 : decode cL_law 1278 = .ok (.invokevirtual 154, 3) := dk_182 0 154 (dk_at dksL_law_50 15 rfl rfl)
theorem dL_law_1281 : decode cL_law 1281 = .ok (.dstore 7, 2) := dk_57 7 (dk_at dksL_law_50 18 rfl rfl)
theorem dL_law_1283 : decode cL_law 1283 = .ok (.aload_n 2, 1) := dk_44 (dk_at dksL_law_50 20 rfl rfl)
theorem dL_law_1284 : decode cL_law 1284 = .ok (.invokevirtual 99, 3) := dk_182 0 99 (dk_at dksL_law_50 21 rfl rfl)
theorem dL_law_1287 : decode cL_law 1287 = .ok (.iload 6, 2) := dk_21 6 (dk_at dksL_law_51 0 rfl rfl)
theorem dL_law_1289 : decode cL_law 1289 = .ok (.if_icmp .eq 5, 3) := dk_159 0 5 (dk_at dksL_law_51 2 rfl rfl)
theorem dL_law_1292 : decode cL_law 1292 = .ok (.iconst 0, 1) := dk_3 (dk_at dksL_law_51 5 rfl rfl)
theorem dL_law_1293 : decode cL_law 1293 = .ok (.ireturn, 1) := dk_172 (dk_at dksL_law_51 6 rfl rfl)
theorem dL_law_1294 : decode cL_law 1294 = .ok (.iload 6, 2) := dk_21 6 (dk_at dksL_law_51 7 rfl rfl)
theorem dL_law_1296 : decode cL_law 1296 = .ok (.ifCond .ne 35, 3) := dk_154 0 35 (dk_at dksL_law_51 9 rfl rfl)
theorem dL_law_1299 : decode cL_law 1299 = .ok (.aload 4, 2) := dk_25 4 (dk_at dksL_law_51 12 rfl rfl)
theorem dL_law_1301 : decode cL_law 1301 = .ok (.iconst 0, 1) := dk_3 (dk_at dksL_law_51 14 rfl rfl)
theorem dL_law_1302 : decode cL_law 1302 = .ok (.daload, 1) := dk_49 (dk_at dksL_law_51 15 rfl rfl)
theorem dL_law_1303 : decode cL_law 1303 = .ok (.dload 7, 2) := dk_24 7 (dk_at dksL_law_51 16 rfl rfl)
theorem dL_law_1305 : decode cL_law 1305 = .ok (.dcmp .l, 1) := dk_151 (dk_at dksL_law_51 18 rfl rfl)
theorem dL_law_1306 : decode cL_law 1306 = .ok (.ifCond .eq 25, 3) := dk_153 0 25 (dk_at dksL_law_51 19 rfl rfl)
theorem dL_law_1309 : decode cL_law 1309 = .ok (.aload 4, 2) := dk_25 4 (dk_at dksL_law_51 22 rfl rfl)
theorem dL_law_1311 : decode cL_law 1311 = .ok (.iconst 0, 1) := dk_3 (dk_at dksL_law_52 0 rfl rfl)
theorem dL_law_1312 : decode cL_law 1312 = .ok (.daload, 1) := dk_49 (dk_at dksL_law_52 1 rfl rfl)
theorem dL_law_1313 : decode cL_law 1313 = .ok (.aload 4, 2) := dk_25 4 (dk_at dksL_law_52 2 rfl rfl)
theorem dL_law_1315 : decode cL_law 1315 = .ok (.iconst 0, 1) := dk_3 (dk_at dksL_law_52 4 rfl rfl)
theorem dL_law_1316 : decode cL_law 1316 = .ok (.daload, 1) := dk_49 (dk_at dksL_law_52 5 rfl rfl)
theorem dL_law_1317 : decode cL_law 1317 = .ok (.dcmp .l, 1) := dk_151 (dk_at dksL_law_52 6 rfl rfl)
theorem dL_law_1318 : decode cL_law 1318 = .ok (.ifCond .eq 11, 3) := dk_153 0 11 (dk_at dksL_law_52 7 rfl rfl)
theorem dL_law_1321 : decode cL_law 1321 = .ok (.dload 7, 2) := dk_24 7 (dk_at dksL_law_52 10 rfl rfl)
theorem dL_law_1323 : decode cL_law 1323 = .ok (.dload 7, 2) := dk_24 7 (dk_at dksL_law_52 12 rfl rfl)
theorem dL_law_1325 : decode cL_law 1325 = .ok (.dcmp .l, 1) := dk_151 (dk_at dksL_law_52 14 rfl rfl)
theorem dL_law_1326 : decode cL_law 1326 = .ok (.ifCond .ne 5, 3) := dk_154 0 5 (dk_at dksL_law_52 15 rfl rfl)
theorem dL_law_1329 : decode cL_law 1329 = .ok (.iconst 0, 1) := dk_3 (dk_at dksL_law_52 18 rfl rfl)
theorem dL_law_1330 : decode cL_law 1330 = .ok (.ireturn, 1) := dk_172 (dk_at dksL_law_52 19 rfl rfl)
theorem dL_law_1331 : decode cL_law 1331 = .ok (.goto 360, 3) := dk_167 1 104 (dk_at dksL_law_52 20 rfl rfl)
theorem dL_law_1334 : decode cL_law 1334 = .ok (.aload_n 1, 1) := dk_43 (dk_at dksL_law_52 23 rfl rfl)
theorem dL_law_1335 : decode cL_law 1335 = .ok (.invokevirtual 155, 3) := dk_182 0 155 (dk_at dksL_law_53 0 rfl rfl)
theorem dL_law_1338 : decode cL_law 1338 = .ok (.aload_n 2, 1) := dk_44 (dk_at dksL_law_53 3 rfl rfl)
theorem dL_law_1339 : decode cL_law 1339 = .ok (.invokevirtual 158, 3) := dk_182 0 158 (dk_at dksL_law_53 4 rfl rfl)
theorem dL_law_1342 : decode cL_law 1342 = .ok (.if_icmp .eq 349, 3) := dk_159 1 93 (dk_at dksL_law_53 7 rfl rfl)
theorem dL_law_1345 : decode cL_law 1345 = .ok (.iconst 0, 1) := dk_3 (dk_at dksL_law_53 10 rfl rfl)
theorem dL_law_1346 : decode cL_law 1346 = .ok (.ireturn, 1) := dk_172 (dk_at dksL_law_53 11 rfl rfl)
theorem dL_law_1347 : decode cL_law 1347 = .ok (.aload_n 1, 1) := dk_43 (dk_at dksL_law_53 12 rfl rfl)
theorem dL_law_1348 : decode cL_law 1348 = .ok (.aload_n 0, 1) := dk_42 (dk_at dksL_law_53 13 rfl rfl)
theorem dL_law_1349 : decode cL_law 1349 = .ok (.iload 5, 2) := dk_21 5 (dk_at dksL_law_53 14 rfl rfl)
theorem dL_law_1351 : decode cL_law 1351 = .ok (.iconst 1, 1) := dk_4 (dk_at dksL_law_53 16 rfl rfl)
theorem dL_law_1352 : decode cL_law 1352 = .ok (.iadd, 1) := dk_96 (dk_at dksL_law_53 17 rfl rfl)
theorem dL_law_1353 : decode cL_law 1353 = .ok (.iaload, 1) := dk_46 (dk_at dksL_law_53 18 rfl rfl)
theorem dL_law_1354 : decode cL_law 1354 = .ok (.aload_n 3, 1) := dk_45 (dk_at dksL_law_53 19 rfl rfl)
theorem dL_law_1355 : decode cL_law 1355 = .ok (.invokestatic 159, 3) := dk_184 0 159 (dk_at dksL_law_53 20 rfl rfl)
theorem dL_law_1358 : decode cL_law 1358 = .ok (.istore 6, 2) := dk_54 6 (dk_at dksL_law_54 0 rfl rfl)
theorem dL_law_1360 : decode cL_law 1360 = .ok (.aload_n 2, 1) := dk_44 (dk_at dksL_law_54 2 rfl rfl)
theorem dL_law_1361 : decode cL_law 1361 = .ok (.aload_n 0, 1) := dk_42 (dk_at dksL_law_54 3 rfl rfl)
theorem dL_law_1362 : decode cL_law 1362 = .ok (.iload 5, 2) := dk_21 5 (dk_at dksL_law_54 4 rfl rfl)
theorem dL_law_1364 : decode cL_law 1364 = .ok (.iconst 1, 1) := dk_4 (dk_at dksL_law_54 6 rfl rfl)
theorem dL_law_1365 : decode cL_law 1365 = .ok (.iadd, 1) := dk_96 (dk_at dksL_law_54 7 rfl rfl)
theorem dL_law_1366 : decode cL_law 1366 = .ok (.iaload, 1) := dk_46 (dk_at dksL_law_54 8 rfl rfl)
theorem dL_law_1367 : decode cL_law 1367 = .ok (.invokevirtual 161, 3) := dk_182 0 161 (dk_at dksL_law_54 9 rfl rfl)
theorem dL_law_1370 : decode cL_law 1370 = .ok (.lstore 7, 2) := dk_55 7 (dk_at dksL_law_54 12 rfl rfl)
theorem dL_law_1372 : decode cL_law 1372 = .ok (.aload_n 2, 1) := dk_44 (dk_at dksL_law_54 14 rfl rfl)
theorem dL_law_1373 : decode cL_law 1373 = .ok (.invokevirtual 99, 3) := dk_182 0 99 (dk_at dksL_law_54 15 rfl rfl)
theorem dL_law_1376 : decode cL_law 1376 = .ok (.iload 6, 2) := dk_21 6 (dk_at dksL_law_54 18 rfl rfl)
theorem dL_law_1378 : decode cL_law 1378 = .ok (.if_icmp .eq 5, 3) := dk_159 0 5 (dk_at dksL_law_54 20 rfl rfl)
theorem dL_law_1381 : decode cL_law 1381 = .ok (.iconst 0, 1) := dk_3 (dk_at dksL_law_54 23 rfl rfl)
theorem dL_law_1382 : decode cL_law 1382 = .ok (.ireturn, 1) := dk_172 (dk_at dksL_law_55 0 rfl rfl)
theorem dL_law_1383 : decode cL_law 1383 = .ok (.iload 6, 2) := dk_21 6 (dk_at dksL_law_55 1 rfl rfl)
theorem dL_law_1385 : decode cL_law 1385 = .ok (.ifCond .ne 14, 3) := dk_154 0 14 (dk_at dksL_law_55 3 rfl rfl)
theorem dL_law_1388 : decode cL_law 1388 = .ok (.aload_n 3, 1) := dk_45 (dk_at dksL_law_55 6 rfl rfl)
theorem dL_law_1389 : decode cL_law 1389 = .ok (.iconst 0, 1) := dk_3 (dk_at dksL_law_55 7 rfl rfl)
theorem dL_law_1390 : decode cL_law 1390 = .ok (.laload, 1) := dk_47 (dk_at dksL_law_55 8 rfl rfl)
theorem dL_law_1391 : decode cL_law 1391 = .ok (.lload 7, 2) := dk_22 7 (dk_at dksL_law_55 9 rfl rfl)
theorem dL_law_1393 : decode cL_law 1393 = .ok (.lcmp, 1) := dk_148 (dk_at dksL_law_55 11 rfl rfl)
theorem dL_law_1394 : decode cL_law 1394 = .ok (.ifCond .eq 5, 3) := dk_153 0 5 (dk_at dksL_law_55 12 rfl rfl)
theorem dL_law_1397 : decode cL_law 1397 = .ok (.iconst 0, 1) := dk_3 (dk_at dksL_law_55 15 rfl rfl)
theorem dL_law_1398 : decode cL_law 1398 = .ok (.ireturn, 1) := dk_172 (dk_at dksL_law_55 16 rfl rfl)
theorem dL_law_1399 : decode cL_law 1399 = .ok (.goto 292, 3) := dk_167 1 36 (dk_at dksL_law_55 17 rfl rfl)
theorem dL_law_1402 : decode cL_law 1402 = .ok (.aload_n 1, 1) := dk_43 (dk_at dksL_law_55 20 rfl rfl)
theorem dL_law_1403 : decode cL_law 1403 = .ok (.aload_n 0, 1) := dk_42 (dk_at dksL_law_55 21 rfl rfl)
theorem dL_law_1404 : decode cL_law 1404 = .ok (.iload 5, 2) := dk_21 5 (dk_at dksL_law_55 22 rfl rfl)
theorem dL_law_1406 : decode cL_law 1406 = .ok (.iconst 1, 1) := dk_4 (dk_at dksL_law_56 0 rfl rfl)
theorem dL_law_1407 : decode cL_law 1407 = .ok (.iadd, 1) := dk_96 (dk_at dksL_law_56 1 rfl rfl)
theorem dL_law_1408 : decode cL_law 1408 = .ok (.iaload, 1) := dk_46 (dk_at dksL_law_56 2 rfl rfl)
theorem dL_law_1409 : decode cL_law 1409 = .ok (.aload_n 0, 1) := dk_42 (dk_at dksL_law_56 3 rfl rfl)
theorem dL_law_1410 : decode cL_law 1410 = .ok (.iload 5, 2) := dk_21 5 (dk_at dksL_law_56 4 rfl rfl)
theorem dL_law_1412 : decode cL_law 1412 = .ok (.iconst 2, 1) := dk_5 (dk_at dksL_law_56 6 rfl rfl)
theorem dL_law_1413 : decode cL_law 1413 = .ok (.iadd, 1) := dk_96 (dk_at dksL_law_56 7 rfl rfl)
theorem dL_law_1414 : decode cL_law 1414 = .ok (.iaload, 1) := dk_46 (dk_at dksL_law_56 8 rfl rfl)
theorem dL_law_1415 : decode cL_law 1415 = .ok (.aload_n 3, 1) := dk_45 (dk_at dksL_law_56 9 rfl rfl)
theorem dL_law_1416 : decode cL_law 1416 = .ok (.invokestatic 162, 3) := dk_184 0 162 (dk_at dksL_law_56 10 rfl rfl)
theorem dL_law_1419 : decode cL_law 1419 = .ok (.istore 6, 2) := dk_54 6 (dk_at dksL_law_56 13 rfl rfl)
theorem dL_law_1421 : decode cL_law 1421 = .ok (.aload_n 2, 1) := dk_44 (dk_at dksL_law_56 15 rfl rfl)
theorem dL_law_1422 : decode cL_law 1422 = .ok (.aload_n 0, 1) := dk_42 (dk_at dksL_law_56 16 rfl rfl)
theorem dL_law_1423 : decode cL_law 1423 = .ok (.iload 5, 2) := dk_21 5 (dk_at dksL_law_56 17 rfl rfl)
theorem dL_law_1425 : decode cL_law 1425 = .ok (.iconst 1, 1) := dk_4 (dk_at dksL_law_56 19 rfl rfl)
theorem dL_law_1426 : decode cL_law 1426 = .ok (.iadd, 1) := dk_96 (dk_at dksL_law_56 20 rfl rfl)
theorem dL_law_1427 : decode cL_law 1427 = .ok (.iaload, 1) := dk_46 (dk_at dksL_law_56 21 rfl rfl)
theorem dL_law_1428 : decode cL_law 1428 = .ok (.aload_n 0, 1) := dk_42 (dk_at dksL_law_56 22 rfl rfl)
theorem dL_law_1429 : decode cL_law 1429 = .ok (.iload 5, 2) := dk_21 5 (dk_at dksL_law_57 0 rfl rfl)
theorem dL_law_1431 : decode cL_law 1431 = .ok (.iconst 2, 1) := dk_5 (dk_at dksL_law_57 2 rfl rfl)
theorem dL_law_1432 : decode cL_law 1432 = .ok (.iadd, 1) := dk_96 (dk_at dksL_law_57 3 rfl rfl)
theorem dL_law_1433 : decode cL_law 1433 = .ok (.iaload, 1) := dk_46 (dk_at dksL_law_57 4 rfl rfl)
theorem dL_law_1434 : decode cL_law 1434 = .ok (.invokevirtual 164, 3) := dk_182 0 164 (dk_at dksL_law_57 5 rfl rfl)
theorem dL_law_1437 : decode cL_law 1437 = .ok (.istore 7, 2) := dk_54 7 (dk_at dksL_law_57 8 rfl rfl)
theorem dL_law_1439 : decode cL_law 1439 = .ok (.aload_n 2, 1) := dk_44 (dk_at dksL_law_57 10 rfl rfl)
theorem dL_law_1440 : decode cL_law 1440 = .ok (.invokevirtual 99, 3) := dk_182 0 99 (dk_at dksL_law_57 11 rfl rfl)
theorem dL_law_1443 : decode cL_law 1443 = .ok (.iload 6, 2) := dk_21 6 (dk_at dksL_law_57 14 rfl rfl)
theorem dL_law_1445 : decode cL_law 1445 = .ok (.if_icmp .eq 5, 3) := dk_159 0 5 (dk_at dksL_law_57 16 rfl rfl)
theorem dL_law_1448 : decode cL_law 1448 = .ok (.iconst 0, 1) := dk_3 (dk_at dksL_law_57 19 rfl rfl)
theorem dL_law_1449 : decode cL_law 1449 = .ok (.ireturn, 1) := dk_172 (dk_at dksL_law_57 20 rfl rfl)
theorem dL_law_1450 : decode cL_law 1450 = .ok (.iload 6, 2) := dk_21 6 (dk_at dksL_law_57 21 rfl rfl)
theorem dL_law_1452 : decode cL_law 1452 = .ok (.ifCond .ne 15, 3) := dk_154 0 15 (dk_at dksL_law_58 0 rfl rfl)
theorem dL_law_1455 : decode cL_law 1455 = .ok (.aload_n 3, 1) := dk_45 (dk_at dksL_law_58 3 rfl rfl)
theorem dL_law_1456 : decode cL_law 1456 = .ok (.iconst 0, 1) := dk_3 (dk_at dksL_law_58 4 rfl rfl)
theorem dL_law_1457 : decode cL_law 1457 = .ok (.laload, 1) := dk_47 (dk_at dksL_law_58 5 rfl rfl)
theorem dL_law_1458 : decode cL_law 1458 = .ok (.iload 7, 2) := dk_21 7 (dk_at dksL_law_58 6 rfl rfl)
theorem dL_law_1460 : decode cL_law 1460 = .ok (.i2l, 1) := dk_133 (dk_at dksL_law_58 8 rfl rfl)
theorem dL_law_1461 : decode cL_law 1461 = .ok (.lcmp, 1) := dk_148 (dk_at dksL_law_58 9 rfl rfl)
theorem dL_law_1462 : decode cL_law 1462 = .ok (.ifCond .eq 5, 3) := dk_153 0 5 (dk_at dksL_law_58 10 rfl rfl)
theorem dL_law_1465 : decode cL_law 1465 = .ok (.iconst 0, 1) := dk_3 (dk_at dksL_law_58 13 rfl rfl)
theorem dL_law_1466 : decode cL_law 1466 = .ok (.ireturn, 1) := dk_172 (dk_at dksL_law_58 14 rfl rfl)
theorem dL_law_1467 : decode cL_law 1467 = .ok (.goto 224, 3) := dk_167 0 224 (dk_at dksL_law_58 15 rfl rfl)
theorem dL_law_1470 : decode cL_law 1470 = .ok (.aload_n 1, 1) := dk_43 (dk_at dksL_law_58 18 rfl rfl)
theorem dL_law_1471 : decode cL_law 1471 = .ok (.invokevirtual 165, 3) := dk_182 0 165 (dk_at dksL_law_58 19 rfl rfl)
theorem dL_law_1474 : decode cL_law 1474 = .ok (.aload_n 2, 1) := dk_44 (dk_at dksL_law_58 22 rfl rfl)
theorem dL_law_1475 : decode cL_law 1475 = .ok (.invokevirtual 168, 3) := dk_182 0 168 (dk_at dksL_law_59 0 rfl rfl)
theorem dL_law_1478 : decode cL_law 1478 = .ok (.if_icmp .eq 213, 3) := dk_159 0 213 (dk_at dksL_law_59 3 rfl rfl)
theorem dL_law_1481 : decode cL_law 1481 = .ok (.iconst 0, 1) := dk_3 (dk_at dksL_law_59 6 rfl rfl)
theorem dL_law_1482 : decode cL_law 1482 = .ok (.ireturn, 1) := dk_172 (dk_at dksL_law_59 7 rfl rfl)
theorem dL_law_1483 : decode cL_law 1483 = .ok (.aload_n 1, 1) := dk_43 (dk_at dksL_law_59 8 rfl rfl)
theorem dL_law_1484 : decode cL_law 1484 = .ok (.aload_n 0, 1) := dk_42 (dk_at dksL_law_59 9 rfl rfl)
theorem dL_law_1485 : decode cL_law 1485 = .ok (.iload 5, 2) := dk_21 5 (dk_at dksL_law_59 10 rfl rfl)
theorem dL_law_1487 : decode cL_law 1487 = .ok (.iconst 1, 1) := dk_4 (dk_at dksL_law_59 12 rfl rfl)
theorem dL_law_1488 : decode cL_law 1488 = .ok (.iadd, 1) := dk_96 (dk_at dksL_law_59 13 rfl rfl)
theorem dL_law_1489 : decode cL_law 1489 = .ok (.iaload, 1) := dk_46 (dk_at dksL_law_59 14 rfl rfl)
theorem dL_law_1490 : decode cL_law 1490 = .ok (.aload_n 0, 1) := dk_42 (dk_at dksL_law_59 15 rfl rfl)
theorem dL_law_1491 : decode cL_law 1491 = .ok (.iload 5, 2) := dk_21 5 (dk_at dksL_law_59 16 rfl rfl)
theorem dL_law_1493 : decode cL_law 1493 = .ok (.iconst 2, 1) := dk_5 (dk_at dksL_law_59 18 rfl rfl)
theorem dL_law_1494 : decode cL_law 1494 = .ok (.iadd, 1) := dk_96 (dk_at dksL_law_59 19 rfl rfl)
theorem dL_law_1495 : decode cL_law 1495 = .ok (.iaload, 1) := dk_46 (dk_at dksL_law_59 20 rfl rfl)
theorem dL_law_1496 : decode cL_law 1496 = .ok (.aload_n 3, 1) := dk_45 (dk_at dksL_law_59 21 rfl rfl)
theorem dL_law_1497 : decode cL_law 1497 = .ok (.invokestatic 169, 3) := dk_184 0 169 (dk_at dksL_law_60 0 rfl rfl)
theorem dL_law_1500 : decode cL_law 1500 = .ok (.istore 6, 2) := dk_54 6 (dk_at dksL_law_60 3 rfl rfl)
theorem dL_law_1502 : decode cL_law 1502 = .ok (.aload_n 2, 1) := dk_44 (dk_at dksL_law_60 5 rfl rfl)
theorem dL_law_1503 : decode cL_law 1503 = .ok (.aload_n 0, 1) := dk_42 (dk_at dksL_law_60 6 rfl rfl)
theorem dL_law_1504 : decode cL_law 1504 = .ok (.iload 5, 2) := dk_21 5 (dk_at dksL_law_60 7 rfl rfl)
theorem dL_law_1506 : decode cL_law 1506 = .ok (.iconst 1, 1) := dk_4 (dk_at dksL_law_60 9 rfl rfl)
theorem dL_law_1507 : decode cL_law 1507 = .ok (.iadd, 1) := dk_96 (dk_at dksL_law_60 10 rfl rfl)
theorem dL_law_1508 : decode cL_law 1508 = .ok (.iaload, 1) := dk_46 (dk_at dksL_law_60 11 rfl rfl)
theorem dL_law_1509 : decode cL_law 1509 = .ok (.aload_n 0, 1) := dk_42 (dk_at dksL_law_60 12 rfl rfl)
theorem dL_law_1510 : decode cL_law 1510 = .ok (.iload 5, 2) := dk_21 5 (dk_at dksL_law_60 13 rfl rfl)
theorem dL_law_1512 : decode cL_law 1512 = .ok (.iconst 2, 1) := dk_5 (dk_at dksL_law_60 15 rfl rfl)
theorem dL_law_1513 : decode cL_law 1513 = .ok (.iadd, 1) := dk_96 (dk_at dksL_law_60 16 rfl rfl)
theorem dL_law_1514 : decode cL_law 1514 = .ok (.iaload, 1) := dk_46 (dk_at dksL_law_60 17 rfl rfl)
theorem dL_law_1515 : decode cL_law 1515 = .ok (.invokevirtual 171, 3) := dk_182 0 171 (dk_at dksL_law_60 18 rfl rfl)
theorem dL_law_1518 : decode cL_law 1518 = .ok (.istore 7, 2) := dk_54 7 (dk_at dksL_law_60 21 rfl rfl)
theorem dL_law_1520 : decode cL_law 1520 = .ok (.aload_n 2, 1) := dk_44 (dk_at dksL_law_60 23 rfl rfl)
theorem dL_law_1521 : decode cL_law 1521 = .ok (.invokevirtual 99, 3) := dk_182 0 99 (dk_at dksL_law_61 0 rfl rfl)
theorem dL_law_1524 : decode cL_law 1524 = .ok (.iload 6, 2) := dk_21 6 (dk_at dksL_law_61 3 rfl rfl)
theorem dL_law_1526 : decode cL_law 1526 = .ok (.if_icmp .eq 5, 3) := dk_159 0 5 (dk_at dksL_law_61 5 rfl rfl)
theorem dL_law_1529 : decode cL_law 1529 = .ok (.iconst 0, 1) := dk_3 (dk_at dksL_law_61 8 rfl rfl)
theorem dL_law_1530 : decode cL_law 1530 = .ok (.ireturn, 1) := dk_172 (dk_at dksL_law_61 9 rfl rfl)
theorem dL_law_1531 : decode cL_law 1531 = .ok (.iload 6, 2) := dk_21 6 (dk_at dksL_law_61 10 rfl rfl)
theorem dL_law_1533 : decode cL_law 1533 = .ok (.ifCond .ne 15, 3) := dk_154 0 15 (dk_at dksL_law_61 12 rfl rfl)
theorem dL_law_1536 : decode cL_law 1536 = .ok (.aload_n 3, 1) := dk_45 (dk_at dksL_law_61 15 rfl rfl)
theorem dL_law_1537 : decode cL_law 1537 = .ok (.iconst 0, 1) := dk_3 (dk_at dksL_law_61 16 rfl rfl)
theorem dL_law_1538 : decode cL_law 1538 = .ok (.laload, 1) := dk_47 (dk_at dksL_law_61 17 rfl rfl)
theorem dL_law_1539 : decode cL_law 1539 = .ok (.iload 7, 2) := dk_21 7 (dk_at dksL_law_61 18 rfl rfl)
theorem dL_law_1541 : decode cL_law 1541 = .ok (.i2l, 1) := dk_133 (dk_at dksL_law_61 20 rfl rfl)
theorem dL_law_1542 : decode cL_law 1542 = .ok (.lcmp, 1) := dk_148 (dk_at dksL_law_61 21 rfl rfl)
theorem dL_law_1543 : decode cL_law 1543 = .ok (.ifCond .eq 5, 3) := dk_153 0 5 (dk_at dksL_law_62 0 rfl rfl)
theorem dL_law_1546 : decode cL_law 1546 = .ok (.iconst 0, 1) := dk_3 (dk_at dksL_law_62 3 rfl rfl)
theorem dL_law_1547 : decode cL_law 1547 = .ok (.ireturn, 1) := dk_172 (dk_at dksL_law_62 4 rfl rfl)
theorem dL_law_1548 : decode cL_law 1548 = .ok (.goto 143, 3) := dk_167 0 143 (dk_at dksL_law_62 5 rfl rfl)
theorem dL_law_1551 : decode cL_law 1551 = .ok (.aload_n 1, 1) := dk_43 (dk_at dksL_law_62 8 rfl rfl)
theorem dL_law_1552 : decode cL_law 1552 = .ok (.aload_n 0, 1) := dk_42 (dk_at dksL_law_62 9 rfl rfl)
theorem dL_law_1553 : decode cL_law 1553 = .ok (.iload 5, 2) := dk_21 5 (dk_at dksL_law_62 10 rfl rfl)
theorem dL_law_1555 : decode cL_law 1555 = .ok (.iconst 1, 1) := dk_4 (dk_at dksL_law_62 12 rfl rfl)
theorem dL_law_1556 : decode cL_law 1556 = .ok (.iadd, 1) := dk_96 (dk_at dksL_law_62 13 rfl rfl)
theorem dL_law_1557 : decode cL_law 1557 = .ok (.iaload, 1) := dk_46 (dk_at dksL_law_62 14 rfl rfl)
theorem dL_law_1558 : decode cL_law 1558 = .ok (.aload_n 3, 1) := dk_45 (dk_at dksL_law_62 15 rfl rfl)
theorem dL_law_1559 : decode cL_law 1559 = .ok (.invokestatic 172, 3) := dk_184 0 172 (dk_at dksL_law_62 16 rfl rfl)
theorem dL_law_1562 : decode cL_law 1562 = .ok (.istore 6, 2) := dk_54 6 (dk_at dksL_law_62 19 rfl rfl)
theorem dL_law_1564 : decode cL_law 1564 = .ok (.aload_n 2, 1) := dk_44 (dk_at dksL_law_62 21 rfl rfl)
theorem dL_law_1565 : decode cL_law 1565 = .ok (.aload_n 0, 1) := dk_42 (dk_at dksL_law_62 22 rfl rfl)
theorem dL_law_1566 : decode cL_law 1566 = .ok (.iload 5, 2) := dk_21 5 (dk_at dksL_law_63 0 rfl rfl)
theorem dL_law_1568 : decode cL_law 1568 = .ok (.iconst 1, 1) := dk_4 (dk_at dksL_law_63 2 rfl rfl)
theorem dL_law_1569 : decode cL_law 1569 = .ok (.iadd, 1) := dk_96 (dk_at dksL_law_63 3 rfl rfl)
theorem dL_law_1570 : decode cL_law 1570 = .ok (.iaload, 1) := dk_46 (dk_at dksL_law_63 4 rfl rfl)
theorem dL_law_1571 : decode cL_law 1571 = .ok (.invokevirtual 174, 3) := dk_182 0 174 (dk_at dksL_law_63 5 rfl rfl)
theorem dL_law_1574 : decode cL_law 1574 = .ok (.istore 7, 2) := dk_54 7 (dk_at dksL_law_63 8 rfl rfl)
theorem dL_law_1576 : decode cL_law 1576 = .ok (.aload_n 2, 1) := dk_44 (dk_at dksL_law_63 10 rfl rfl)
theorem dL_law_1577 : decode cL_law 1577 = .ok (.invokevirtual 99, 3) := dk_182 0 99 (dk_at dksL_law_63 11 rfl rfl)
theorem dL_law_1580 : decode cL_law 1580 = .ok (.iload 6, 2) := dk_21 6 (dk_at dksL_law_63 14 rfl rfl)
theorem dL_law_1582 : decode cL_law 1582 = .ok (.if_icmp .eq 5, 3) := dk_159 0 5 (dk_at dksL_law_63 16 rfl rfl)
theorem dL_law_1585 : decode cL_law 1585 = .ok (.iconst 0, 1) := dk_3 (dk_at dksL_law_63 19 rfl rfl)
theorem dL_law_1586 : decode cL_law 1586 = .ok (.ireturn, 1) := dk_172 (dk_at dksL_law_63 20 rfl rfl)
theorem dL_law_1587 : decode cL_law 1587 = .ok (.iload 6, 2) := dk_21 6 (dk_at dksL_law_63 21 rfl rfl)
theorem dL_law_1589 : decode cL_law 1589 = .ok (.ifCond .ne 15, 3) := dk_154 0 15 (dk_at dksL_law_64 0 rfl rfl)
theorem dL_law_1592 : decode cL_law 1592 = .ok (.aload_n 3, 1) := dk_45 (dk_at dksL_law_64 3 rfl rfl)
theorem dL_law_1593 : decode cL_law 1593 = .ok (.iconst 0, 1) := dk_3 (dk_at dksL_law_64 4 rfl rfl)
theorem dL_law_1594 : decode cL_law 1594 = .ok (.laload, 1) := dk_47 (dk_at dksL_law_64 5 rfl rfl)
theorem dL_law_1595 : decode cL_law 1595 = .ok (.iload 7, 2) := dk_21 7 (dk_at dksL_law_64 6 rfl rfl)
theorem dL_law_1597 : decode cL_law 1597 = .ok (.i2l, 1) := dk_133 (dk_at dksL_law_64 8 rfl rfl)
theorem dL_law_1598 : decode cL_law 1598 = .ok (.lcmp, 1) := dk_148 (dk_at dksL_law_64 9 rfl rfl)
theorem dL_law_1599 : decode cL_law 1599 = .ok (.ifCond .eq 5, 3) := dk_153 0 5 (dk_at dksL_law_64 10 rfl rfl)
theorem dL_law_1602 : decode cL_law 1602 = .ok (.iconst 0, 1) := dk_3 (dk_at dksL_law_64 13 rfl rfl)
theorem dL_law_1603 : decode cL_law 1603 = .ok (.ireturn, 1) := dk_172 (dk_at dksL_law_64 14 rfl rfl)
theorem dL_law_1604 : decode cL_law 1604 = .ok (.goto 87, 3) := dk_167 0 87 (dk_at dksL_law_64 15 rfl rfl)
theorem dL_law_1607 : decode cL_law 1607 = .ok (.aload_n 1, 1) := dk_43 (dk_at dksL_law_64 18 rfl rfl)
theorem dL_law_1608 : decode cL_law 1608 = .ok (.invokevirtual 175, 3) := dk_182 0 175 (dk_at dksL_law_64 19 rfl rfl)
theorem dL_law_1611 : decode cL_law 1611 = .ok (.aload_n 2, 1) := dk_44 (dk_at dksL_law_64 22 rfl rfl)
theorem dL_law_1612 : decode cL_law 1612 = .ok (.invokevirtual 178, 3) := dk_182 0 178 (dk_at dksL_law_65 0 rfl rfl)
theorem dL_law_1615 : decode cL_law 1615 = .ok (.if_icmp .eq 76, 3) := dk_159 0 76 (dk_at dksL_law_65 3 rfl rfl)
theorem dL_law_1618 : decode cL_law 1618 = .ok (.iconst 0, 1) := dk_3 (dk_at dksL_law_65 6 rfl rfl)
theorem dL_law_1619 : decode cL_law 1619 = .ok (.ireturn, 1) := dk_172 (dk_at dksL_law_65 7 rfl rfl)
theorem dL_law_1620 : decode cL_law 1620 = .ok (.aload_n 1, 1) := dk_43 (dk_at dksL_law_65 8 rfl rfl)
theorem dL_law_1621 : decode cL_law 1621 = .ok (.invokevirtual 179, 3) := dk_182 0 179 (dk_at dksL_law_65 9 rfl rfl)
theorem dL_law_1624 : decode cL_law 1624 = .ok (.aload_n 2, 1) := dk_44 (dk_at dksL_law_65 12 rfl rfl)
theorem dL_law_1625 : decode cL_law 1625 = .ok (.invokevirtual 182, 3) := dk_182 0 182 (dk_at dksL_law_65 13 rfl rfl)
theorem dL_law_1628 : decode cL_law 1628 = .ok (.if_icmp .eq 63, 3) := dk_159 0 63 (dk_at dksL_law_65 16 rfl rfl)
theorem dL_law_1631 : decode cL_law 1631 = .ok (.iconst 0, 1) := dk_3 (dk_at dksL_law_65 19 rfl rfl)
theorem dL_law_1632 : decode cL_law 1632 = .ok (.ireturn, 1) := dk_172 (dk_at dksL_law_65 20 rfl rfl)
theorem dL_law_1633 : decode cL_law 1633 = .ok (.aload_n 1, 1) := dk_43 (dk_at dksL_law_65 21 rfl rfl)
theorem dL_law_1634 : decode cL_law 1634 = .ok (.aload_n 3, 1) := dk_45 (dk_at dksL_law_65 22 rfl rfl)
theorem dL_law_1635 : decode cL_law 1635 = .ok (.invokestatic 183, 3) := dk_184 0 183 (dk_at dksL_law_66 0 rfl rfl)
theorem dL_law_1638 : decode cL_law 1638 = .ok (.istore 6, 2) := dk_54 6 (dk_at dksL_law_66 3 rfl rfl)
theorem dL_law_1640 : decode cL_law 1640 = .ok (.aload_n 2, 1) := dk_44 (dk_at dksL_law_66 5 rfl rfl)
theorem dL_law_1641 : decode cL_law 1641 = .ok (.invokevirtual 186, 3) := dk_182 0 186 (dk_at dksL_law_66 6 rfl rfl)
theorem dL_law_1644 : decode cL_law 1644 = .ok (.istore 7, 2) := dk_54 7 (dk_at dksL_law_66 9 rfl rfl)
theorem dL_law_1646 : decode cL_law 1646 = .ok (.aload_n 2, 1) := dk_44 (dk_at dksL_law_66 11 rfl rfl)
theorem dL_law_1647 : decode cL_law 1647 = .ok (.invokevirtual 99, 3) := dk_182 0 99 (dk_at dksL_law_66 12 rfl rfl)
theorem dL_law_1650 : decode cL_law 1650 = .ok (.iload 6, 2) := dk_21 6 (dk_at dksL_law_66 15 rfl rfl)
theorem dL_law_1652 : decode cL_law 1652 = .ok (.if_icmp .eq 5, 3) := dk_159 0 5 (dk_at dksL_law_66 17 rfl rfl)
theorem dL_law_1655 : decode cL_law 1655 = .ok (.iconst 0, 1) := dk_3 (dk_at dksL_law_66 20 rfl rfl)
theorem dL_law_1656 : decode cL_law 1656 = .ok (.ireturn, 1) := dk_172 (dk_at dksL_law_66 21 rfl rfl)
theorem dL_law_1657 : decode cL_law 1657 = .ok (.iload 6, 2) := dk_21 6 (dk_at dksL_law_66 22 rfl rfl)
theorem dL_law_1659 : decode cL_law 1659 = .ok (.ifCond .ne 15, 3) := dk_154 0 15 (dk_at dksL_law_67 0 rfl rfl)
theorem dL_law_1662 : decode cL_law 1662 = .ok (.aload_n 3, 1) := dk_45 (dk_at dksL_law_67 3 rfl rfl)
theorem dL_law_1663 : decode cL_law 1663 = .ok (.iconst 0, 1) := dk_3 (dk_at dksL_law_67 4 rfl rfl)
theorem dL_law_1664 : decode cL_law 1664 = .ok (.laload, 1) := dk_47 (dk_at dksL_law_67 5 rfl rfl)
theorem dL_law_1665 : decode cL_law 1665 = .ok (.iload 7, 2) := dk_21 7 (dk_at dksL_law_67 6 rfl rfl)
theorem dL_law_1667 : decode cL_law 1667 = .ok (.i2l, 1) := dk_133 (dk_at dksL_law_67 8 rfl rfl)
theorem dL_law_1668 : decode cL_law 1668 = .ok (.lcmp, 1) := dk_148 (dk_at dksL_law_67 9 rfl rfl)
theorem dL_law_1669 : decode cL_law 1669 = .ok (.ifCond .eq 5, 3) := dk_153 0 5 (dk_at dksL_law_67 10 rfl rfl)
theorem dL_law_1672 : decode cL_law 1672 = .ok (.iconst 0, 1) := dk_3 (dk_at dksL_law_67 13 rfl rfl)
theorem dL_law_1673 : decode cL_law 1673 = .ok (.ireturn, 1) := dk_172 (dk_at dksL_law_67 14 rfl rfl)
theorem dL_law_1674 : decode cL_law 1674 = .ok (.goto 17, 3) := dk_167 0 17 (dk_at dksL_law_67 15 rfl rfl)
theorem dL_law_1677 : decode cL_law 1677 = .ok (.aload_n 1, 1) := dk_43 (dk_at dksL_law_67 18 rfl rfl)
theorem dL_law_1678 : decode cL_law 1678 = .ok (.invokevirtual 187, 3) := dk_182 0 187 (dk_at dksL_law_67 19 rfl rfl)
theorem dL_law_1681 : decode cL_law 1681 = .ok (.aload_n 2, 1) := dk_44 (dk_at dksL_law_67 22 rfl rfl)
theorem dL_law_1682 : decode cL_law 1682 = .ok (.invokevirtual 191, 3) := dk_182 0 191 (dk_at dksL_law_68 0 rfl rfl)
theorem dL_law_1685 : decode cL_law 1685 = .ok (.lcmp, 1) := dk_148 (dk_at dksL_law_68 3 rfl rfl)
theorem dL_law_1686 : decode cL_law 1686 = .ok (.ifCond .eq 5, 3) := dk_153 0 5 (dk_at dksL_law_68 4 rfl rfl)
theorem dL_law_1689 : decode cL_law 1689 = .ok (.iconst 0, 1) := dk_3 (dk_at dksL_law_68 7 rfl rfl)
theorem dL_law_1690 : decode cL_law 1690 = .ok (.ireturn, 1) := dk_172 (dk_at dksL_law_68 8 rfl rfl)
theorem dL_law_1691 : decode cL_law 1691 = .ok (.iinc 5 4, 3) := dk_132 5 4 (dk_at dksL_law_68 9 rfl rfl)
theorem dL_law_1694 : decode cL_law 1694 = .ok (.goto (-1666), 3) := dk_167 249 126 (dk_at dksL_law_68 12 rfl rfl)
theorem dL_law_1697 : decode cL_law 1697 = .ok (.iconst 1, 1) := dk_4 (dk_at dksL_law_68 15 rfl rfl)
theorem dL_law_1698 : decode cL_law 1698 = .ok (.ireturn, 1) := dk_172 (dk_at dksL_law_68 16 rfl rfl)
