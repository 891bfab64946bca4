/-! bundles: an entry of the constants, a lemma (printed by bundles.py) -/
set_option maxRecDepth 100000
theorem ft_0_0 : FT 0 0 (.object "LakeLevels$State") false := fun _ _ _ h => by cases h; exact ⟨⟨tyX1, tyX1_ok⟩, nmX1, rfl, tyX1_ok 0 (by decide)⟩
theorem ft_0_1 : FT 0 1 (.object "java/util/ArrayDeque") true := fun _ _ _ h => by cases h; exact ⟨⟨tyX1, tyX1_ok⟩, nmX1, rfl, tyX1_ok 1 (by decide)⟩
theorem ft_0_2 : FT 0 2 (.array .byte) true := fun _ _ _ h => by cases h; exact ⟨⟨tyX1, tyX1_ok⟩, nmX1, rfl, tyX1_ok 2 (by decide)⟩
theorem ft_0_3 : FT 0 3 .int false := fun _ _ _ h => by cases h; exact ⟨⟨tyX1, tyX1_ok⟩, nmX1, rfl, tyX1_ok 3 (by decide)⟩
theorem ft_1_0 : FT 1 0 .int true := fun _ _ _ h => by cases h; exact ⟨⟨tyX2, tyX2_ok⟩, nmX2, rfl, tyX2_ok 0 (by decide)⟩
theorem ft_1_1 : FT 1 1 .int true := fun _ _ _ h => by cases h; exact ⟨⟨tyX2, tyX2_ok⟩, nmX2, rfl, tyX2_ok 1 (by decide)⟩
theorem ft_1_2 : FT 1 2 (.array .int) true := fun _ _ _ h => by cases h; exact ⟨⟨tyX2, tyX2_ok⟩, nmX2, rfl, tyX2_ok 2 (by decide)⟩
theorem ft_1_3 : FT 1 3 .long false := fun _ _ _ h => by cases h; exact ⟨⟨tyX2, tyX2_ok⟩, nmX2, rfl, tyX2_ok 3 (by decide)⟩
theorem ft_1_4 : FT 1 4 (.array .int) true := fun _ _ _ h => by cases h; exact ⟨⟨tyX2, tyX2_ok⟩, nmX2, rfl, tyX2_ok 4 (by decide)⟩
theorem ft_1_5 : FT 1 5 (.array .int) true := fun _ _ _ h => by cases h; exact ⟨⟨tyX2, tyX2_ok⟩, nmX2, rfl, tyX2_ok 5 (by decide)⟩
theorem ft_1_6 : FT 1 6 (.array .long) true := fun _ _ _ h => by cases h; exact ⟨⟨tyX2, tyX2_ok⟩, nmX2, rfl, tyX2_ok 6 (by decide)⟩
theorem ft_1_7 : FT 1 7 (.array .int) true := fun _ _ _ h => by cases h; exact ⟨⟨tyX2, tyX2_ok⟩, nmX2, rfl, tyX2_ok 7 (by decide)⟩
theorem ft_1_8 : FT 1 8 (.array .int) true := fun _ _ _ h => by cases h; exact ⟨⟨tyX2, tyX2_ok⟩, nmX2, rfl, tyX2_ok 8 (by decide)⟩
theorem ft_1_9 : FT 1 9 .int false := fun _ _ _ h => by cases h; exact ⟨⟨tyX2, tyX2_ok⟩, nmX2, rfl, tyX2_ok 9 (by decide)⟩
theorem ft_2_0 : FT 2 0 (.object "LakeLevels$Land") true := fun _ _ _ h => by cases h; exact ⟨⟨tyX3, tyX3_ok⟩, nmX3, rfl, tyX3_ok 0 (by decide)⟩
theorem ft_2_1 : FT 2 1 (.object "java/util/LinkedList") true := fun _ _ _ h => by cases h; exact ⟨⟨tyX3, tyX3_ok⟩, nmX3, rfl, tyX3_ok 1 (by decide)⟩
theorem ft_2_2 : FT 2 2 (.array (.object "LakeLevels$Lake")) true := fun _ _ _ h => by cases h; exact ⟨⟨tyX3, tyX3_ok⟩, nmX3, rfl, tyX3_ok 2 (by decide)⟩
theorem ft_2_3 : FT 2 3 .long false := fun _ _ _ h => by cases h; exact ⟨⟨tyX3, tyX3_ok⟩, nmX3, rfl, tyX3_ok 3 (by decide)⟩
theorem ft_2_4 : FT 2 4 .long false := fun _ _ _ h => by cases h; exact ⟨⟨tyX3, tyX3_ok⟩, nmX3, rfl, tyX3_ok 4 (by decide)⟩
theorem ft_2_5 : FT 2 5 .long false := fun _ _ _ h => by cases h; exact ⟨⟨tyX3, tyX3_ok⟩, nmX3, rfl, tyX3_ok 5 (by decide)⟩
theorem ft_3_0 : FT 3 0 .long true := fun _ _ _ h => by cases h; exact ⟨⟨tyX4, tyX4_ok⟩, nmX4, rfl, tyX4_ok 0 (by decide)⟩
theorem ft_3_1 : FT 3 1 .int false := fun _ _ _ h => by cases h; exact ⟨⟨tyX4, tyX4_ok⟩, nmX4, rfl, tyX4_ok 1 (by decide)⟩
theorem ft_3_2 : FT 3 2 .int false := fun _ _ _ h => by cases h; exact ⟨⟨tyX4, tyX4_ok⟩, nmX4, rfl, tyX4_ok 2 (by decide)⟩
theorem ft_3_3 : FT 3 3 .int false := fun _ _ _ h => by cases h; exact ⟨⟨tyX4, tyX4_ok⟩, nmX4, rfl, tyX4_ok 3 (by decide)⟩
theorem ft_3_4 : FT 3 4 .int false := fun _ _ _ h => by cases h; exact ⟨⟨tyX4, tyX4_ok⟩, nmX4, rfl, tyX4_ok 4 (by decide)⟩
theorem ft_3_5 : FT 3 5 .int false := fun _ _ _ h => by cases h; exact ⟨⟨tyX4, tyX4_ok⟩, nmX4, rfl, tyX4_ok 5 (by decide)⟩
theorem ft_3_6 : FT 3 6 (.object "LakeLevels$Lake") true := fun _ _ _ h => by cases h; exact ⟨⟨tyX4, tyX4_ok⟩, nmX4, rfl, tyX4_ok 6 (by decide)⟩
theorem ft_3_7 : FT 3 7 (.object "LakeLevels$Lake") true := fun _ _ _ h => by cases h; exact ⟨⟨tyX4, tyX4_ok⟩, nmX4, rfl, tyX4_ok 7 (by decide)⟩
theorem ft_4_0 : FT 4 0 (.array .long) true := fun _ _ _ h => by cases h; exact ⟨⟨tyX5, tyX5_ok⟩, nmX5, rfl, tyX5_ok 0 (by decide)⟩
theorem ft_4_1 : FT 4 1 (.array .long) true := fun _ _ _ h => by cases h; exact ⟨⟨tyX5, tyX5_ok⟩, nmX5, rfl, tyX5_ok 1 (by decide)⟩
theorem ft_4_2 : FT 4 2 (.array .long) true := fun _ _ _ h => by cases h; exact ⟨⟨tyX5, tyX5_ok⟩, nmX5, rfl, tyX5_ok 2 (by decide)⟩
theorem ft_4_3 : FT 4 3 .int false := fun _ _ _ h => by cases h; exact ⟨⟨tyX5, tyX5_ok⟩, nmX5, rfl, tyX5_ok 3 (by decide)⟩
theorem ft_4_4 : FT 4 4 .int false := fun _ _ _ h => by cases h; exact ⟨⟨tyX5, tyX5_ok⟩, nmX5, rfl, tyX5_ok 4 (by decide)⟩
theorem ft_4_5 : FT 4 5 (.array .long) true := fun _ _ _ h => by cases h; exact ⟨⟨tyX5, tyX5_ok⟩, nmX5, rfl, tyX5_ok 5 (by decide)⟩
theorem ft_4_6 : FT 4 6 .int false := fun _ _ _ h => by cases h; exact ⟨⟨tyX5, tyX5_ok⟩, nmX5, rfl, tyX5_ok 6 (by decide)⟩
theorem ft_4_7 : FT 4 7 .int false := fun _ _ _ h => by cases h; exact ⟨⟨tyX5, tyX5_ok⟩, nmX5, rfl, tyX5_ok 7 (by decide)⟩
theorem ft_4_8 : FT 4 8 .int false := fun _ _ _ h => by cases h; exact ⟨⟨tyX5, tyX5_ok⟩, nmX5, rfl, tyX5_ok 8 (by decide)⟩
theorem ft_4_9 : FT 4 9 (.array .int) true := fun _ _ _ h => by cases h; exact ⟨⟨tyX5, tyX5_ok⟩, nmX5, rfl, tyX5_ok 9 (by decide)⟩
theorem ft_4_10 : FT 4 10 (.array .long) true := fun _ _ _ h => by cases h; exact ⟨⟨tyX5, tyX5_ok⟩, nmX5, rfl, tyX5_ok 10 (by decide)⟩
theorem ft_4_11 : FT 4 11 (.array .int) true := fun _ _ _ h => by cases h; exact ⟨⟨tyX5, tyX5_ok⟩, nmX5, rfl, tyX5_ok 11 (by decide)⟩
theorem ft_4_12 : FT 4 12 .int false := fun _ _ _ h => by cases h; exact ⟨⟨tyX5, tyX5_ok⟩, nmX5, rfl, tyX5_ok 12 (by decide)⟩
theorem ft_4_13 : FT 4 13 .long false := fun _ _ _ h => by cases h; exact ⟨⟨tyX5, tyX5_ok⟩, nmX5, rfl, tyX5_ok 13 (by decide)⟩
theorem ft_4_14 : FT 4 14 .long false := fun _ _ _ h => by cases h; exact ⟨⟨tyX5, tyX5_ok⟩, nmX5, rfl, tyX5_ok 14 (by decide)⟩
theorem ft_4_15 : FT 4 15 (.array .long) true := fun _ _ _ h => by cases h; exact ⟨⟨tyX5, tyX5_ok⟩, nmX5, rfl, tyX5_ok 15 (by decide)⟩
theorem ft_4_16 : FT 4 16 (.array .int) true := fun _ _ _ h => by cases h; exact ⟨⟨tyX5, tyX5_ok⟩, nmX5, rfl, tyX5_ok 16 (by decide)⟩
theorem ft_4_17 : FT 4 17 .int false := fun _ _ _ h => by cases h; exact ⟨⟨tyX5, tyX5_ok⟩, nmX5, rfl, tyX5_ok 17 (by decide)⟩
theorem ft_4_18 : FT 4 18 (.array .int) true := fun _ _ _ h => by cases h; exact ⟨⟨tyX5, tyX5_ok⟩, nmX5, rfl, tyX5_ok 18 (by decide)⟩
theorem ft_4_19 : FT 4 19 (.array .long) true := fun _ _ _ h => by cases h; exact ⟨⟨tyX5, tyX5_ok⟩, nmX5, rfl, tyX5_ok 19 (by decide)⟩
theorem ft_4_20 : FT 4 20 (.array .int) true := fun _ _ _ h => by cases h; exact ⟨⟨tyX5, tyX5_ok⟩, nmX5, rfl, tyX5_ok 20 (by decide)⟩
theorem ft_4_21 : FT 4 21 .int false := fun _ _ _ h => by cases h; exact ⟨⟨tyX5, tyX5_ok⟩, nmX5, rfl, tyX5_ok 21 (by decide)⟩
theorem ft_4_22 : FT 4 22 .int false := fun _ _ _ h => by cases h; exact ⟨⟨tyX5, tyX5_ok⟩, nmX5, rfl, tyX5_ok 22 (by decide)⟩
theorem ft_4_23 : FT 4 23 .int false := fun _ _ _ h => by cases h; exact ⟨⟨tyX5, tyX5_ok⟩, nmX5, rfl, tyX5_ok 23 (by decide)⟩
theorem ft_4_24 : FT 4 24 (.array .int) true := fun _ _ _ h => by cases h; exact ⟨⟨tyX5, tyX5_ok⟩, nmX5, rfl, tyX5_ok 24 (by decide)⟩
theorem ft_5_0 : FT 5 0 .int true := fun _ _ _ h => by cases h; exact ⟨⟨tyX6, tyX6_ok⟩, nmX6, rfl, tyX6_ok 0 (by decide)⟩
theorem ft_5_1 : FT 5 1 .int true := fun _ _ _ h => by cases h; exact ⟨⟨tyX6, tyX6_ok⟩, nmX6, rfl, tyX6_ok 1 (by decide)⟩
theorem ft_5_2 : FT 5 2 (.object "LakeLevels") true := fun _ _ _ h => by cases h; exact ⟨⟨tyX6, tyX6_ok⟩, nmX6, rfl, tyX6_ok 2 (by decide)⟩
theorem ft_6_0 : FT 6 0 .boolean true := fun _ _ _ h => by cases h; exact ⟨⟨tyX7, tyX7_ok⟩, nmX7, rfl, tyX7_ok 0 (by decide)⟩
theorem ft_6_1 : FT 6 1 .int true := fun _ _ _ h => by cases h; exact ⟨⟨tyX7, tyX7_ok⟩, nmX7, rfl, tyX7_ok 1 (by decide)⟩
theorem ft_6_2 : FT 6 2 (.object "LakeLevels") true := fun _ _ _ h => by cases h; exact ⟨⟨tyX7, tyX7_ok⟩, nmX7, rfl, tyX7_ok 2 (by decide)⟩
theorem ft_7_0 : FT 7 0 .int true := fun _ _ _ h => by cases h; exact ⟨⟨tyX8, tyX8_ok⟩, nmX8, rfl, tyX8_ok 0 (by decide)⟩
theorem ft_7_1 : FT 7 1 .int true := fun _ _ _ h => by cases h; exact ⟨⟨tyX8, tyX8_ok⟩, nmX8, rfl, tyX8_ok 1 (by decide)⟩
theorem ft_7_2 : FT 7 2 .int true := fun _ _ _ h => by cases h; exact ⟨⟨tyX8, tyX8_ok⟩, nmX8, rfl, tyX8_ok 2 (by decide)⟩
theorem ft_8_0 : FT 8 0 .int true := fun _ _ _ h => by cases h; exact ⟨⟨tyX9, tyX9_ok⟩, nmX9, rfl, tyX9_ok 0 (by decide)⟩
theorem ft_8_1 : FT 8 1 .int true := fun _ _ _ h => by cases h; exact ⟨⟨tyX9, tyX9_ok⟩, nmX9, rfl, tyX9_ok 1 (by decide)⟩
theorem ft_8_2 : FT 8 2 (.object "LakeLevels") true := fun _ _ _ h => by cases h; exact ⟨⟨tyX9, tyX9_ok⟩, nmX9, rfl, tyX9_ok 2 (by decide)⟩
theorem ft_9_0 : FT 9 0 .int false := fun _ _ _ h => by cases h; exact ⟨⟨tyX10, tyX10_ok⟩, nmX10, rfl, tyX10_ok 0 (by decide)⟩
theorem ft_9_1 : FT 9 1 (.object "LakeLevels") true := fun _ _ _ h => by cases h; exact ⟨⟨tyX10, tyX10_ok⟩, nmX10, rfl, tyX10_ok 1 (by decide)⟩
theorem ft_10_0 : FT 10 0 (.object "java/lang/Throwable") false := fun _ _ _ h => by cases h; exact ⟨⟨tyX11, tyX11_ok⟩, nmX11, rfl, tyX11_ok 0 (by decide)⟩
theorem ft_10_1 : FT 10 1 (.array (.object "java/lang/StackTraceElement")) false := fun _ _ _ h => by cases h; exact ⟨⟨tyX11, tyX11_ok⟩, nmX11, rfl, tyX11_ok 1 (by decide)⟩
theorem ft_10_2 : FT 10 2 (.object "java/util/List") false := fun _ _ _ h => by cases h; exact ⟨⟨tyX11, tyX11_ok⟩, nmX11, rfl, tyX11_ok 2 (by decide)⟩
theorem ft_10_3 : FT 10 3 (.object "java/lang/String") false := fun _ _ _ h => by cases h; exact ⟨⟨tyX11, tyX11_ok⟩, nmX11, rfl, tyX11_ok 3 (by decide)⟩
theorem ft_10_4 : FT 10 4 (.object "java/lang/Object") false := fun _ _ _ h => by cases h; exact ⟨⟨tyX11, tyX11_ok⟩, nmX11, rfl, tyX11_ok 4 (by decide)⟩
theorem ft_10_5 : FT 10 5 .int false := fun _ _ _ h => by cases h; exact ⟨⟨tyX11, tyX11_ok⟩, nmX11, rfl, tyX11_ok 5 (by decide)⟩
theorem ft_10_6 : FT 10 6 .int true := fun _ _ _ h => by cases h; exact ⟨⟨tyX11, tyX11_ok⟩, nmX11, rfl, tyX11_ok 6 (by decide)⟩
theorem ft_11_0 : FT 11 0 .int false := fun _ _ _ h => by cases h; exact ⟨⟨tyJ4, tyJ4_ok⟩, nmJ4, rfl, tyJ4_ok 0 (by decide)⟩
theorem ft_11_1 : FT 11 1 .int false := fun _ _ _ h => by cases h; exact ⟨⟨tyJ4, tyJ4_ok⟩, nmJ4, rfl, tyJ4_ok 1 (by decide)⟩
theorem ft_11_2 : FT 11 2 (.object "java/util/LinkedList$Node") false := fun _ _ _ h => by cases h; exact ⟨⟨tyJ4, tyJ4_ok⟩, nmJ4, rfl, tyJ4_ok 2 (by decide)⟩
theorem ft_11_3 : FT 11 3 (.object "java/util/LinkedList$Node") false := fun _ _ _ h => by cases h; exact ⟨⟨tyJ4, tyJ4_ok⟩, nmJ4, rfl, tyJ4_ok 3 (by decide)⟩
theorem ft_12_0 : FT 12 0 (.object "java/lang/Object") false := fun _ _ _ h => by cases h; exact ⟨⟨tyJ23, tyJ23_ok⟩, nmJ23, rfl, tyJ23_ok 0 (by decide)⟩
theorem ft_12_1 : FT 12 1 (.object "java/util/LinkedList$Node") false := fun _ _ _ h => by cases h; exact ⟨⟨tyJ23, tyJ23_ok⟩, nmJ23, rfl, tyJ23_ok 1 (by decide)⟩
theorem ft_12_2 : FT 12 2 (.object "java/util/LinkedList$Node") false := fun _ _ _ h => by cases h; exact ⟨⟨tyJ23, tyJ23_ok⟩, nmJ23, rfl, tyJ23_ok 2 (by decide)⟩
theorem ft_13_0 : FT 13 0 (.object "java/util/LinkedList$Node") false := fun _ _ _ h => by cases h; exact ⟨⟨tyJ29, tyJ29_ok⟩, nmJ29, rfl, tyJ29_ok 0 (by decide)⟩
theorem ft_13_1 : FT 13 1 (.object "java/util/LinkedList$Node") false := fun _ _ _ h => by cases h; exact ⟨⟨tyJ29, tyJ29_ok⟩, nmJ29, rfl, tyJ29_ok 1 (by decide)⟩
theorem ft_13_2 : FT 13 2 .int false := fun _ _ _ h => by cases h; exact ⟨⟨tyJ29, tyJ29_ok⟩, nmJ29, rfl, tyJ29_ok 2 (by decide)⟩
theorem ft_13_3 : FT 13 3 .int false := fun _ _ _ h => by cases h; exact ⟨⟨tyJ29, tyJ29_ok⟩, nmJ29, rfl, tyJ29_ok 3 (by decide)⟩
theorem ft_13_4 : FT 13 4 (.object "java/util/LinkedList") true := fun _ _ _ h => by cases h; exact ⟨⟨tyJ29, tyJ29_ok⟩, nmJ29, rfl, tyJ29_ok 4 (by decide)⟩
theorem ft_14_0 : FT 14 0 (.array (.object "java/lang/Object")) false := fun _ _ _ h => by cases h; exact ⟨⟨tyJ5, tyJ5_ok⟩, nmJ5, rfl, tyJ5_ok 0 (by decide)⟩
theorem ft_14_1 : FT 14 1 .int false := fun _ _ _ h => by cases h; exact ⟨⟨tyJ5, tyJ5_ok⟩, nmJ5, rfl, tyJ5_ok 1 (by decide)⟩
theorem ft_14_2 : FT 14 2 .int false := fun _ _ _ h => by cases h; exact ⟨⟨tyJ5, tyJ5_ok⟩, nmJ5, rfl, tyJ5_ok 2 (by decide)⟩
theorem ft_15_0 : FT 15 0 .int false := fun _ _ _ h => by cases h; exact ⟨⟨tyJ25, tyJ25_ok⟩, nmJ25, rfl, tyJ25_ok 0 (by decide)⟩
theorem ft_15_1 : FT 15 1 (.array (.object "java/lang/Object")) false := fun _ _ _ h => by cases h; exact ⟨⟨tyJ25, tyJ25_ok⟩, nmJ25, rfl, tyJ25_ok 1 (by decide)⟩
theorem ft_15_2 : FT 15 2 .int false := fun _ _ _ h => by cases h; exact ⟨⟨tyJ25, tyJ25_ok⟩, nmJ25, rfl, tyJ25_ok 2 (by decide)⟩
theorem ft_16_0 : FT 16 0 .int false := fun _ _ _ h => by cases h; exact ⟨⟨tyJ27, tyJ27_ok⟩, nmJ27, rfl, tyJ27_ok 0 (by decide)⟩
theorem ft_16_1 : FT 16 1 .int false := fun _ _ _ h => by cases h; exact ⟨⟨tyJ27, tyJ27_ok⟩, nmJ27, rfl, tyJ27_ok 1 (by decide)⟩
theorem ft_16_2 : FT 16 2 .int false := fun _ _ _ h => by cases h; exact ⟨⟨tyJ27, tyJ27_ok⟩, nmJ27, rfl, tyJ27_ok 2 (by decide)⟩
theorem ft_16_3 : FT 16 3 (.object "java/util/ArrayList") true := fun _ _ _ h => by cases h; exact ⟨⟨tyJ27, tyJ27_ok⟩, nmJ27, rfl, tyJ27_ok 3 (by decide)⟩
theorem ft_17_0 : FT 17 0 .int true := fun _ _ _ h => by cases h; exact ⟨⟨tyJ7, tyJ7_ok⟩, nmJ7, rfl, tyJ7_ok 0 (by decide)⟩
theorem fX3_24_2 : FL RX3 24 2 0 := ⟨RX3, TX3, 6, rfl, in_X3, by decide, q261⟩
theorem fX3_12_2 : FL RX3 12 2 1 := ⟨RX3, TX3, 6, rfl, in_X3, by decide, q263⟩
theorem fX3_20_2 : FL RX3 20 2 2 := ⟨RX3, TX3, 6, rfl, in_X3, by decide, q265⟩
theorem fX3_52_2 : FL RX3 52 2 3 := ⟨RX3, TX3, 6, rfl, in_X3, by decide, q266⟩
theorem fX3_56_2 : FL RX3 56 2 4 := ⟨RX3, TX3, 6, rfl, in_X3, by decide, q268⟩
theorem fX3_59_2 : FL RX3 59 2 5 := ⟨RX3, TX3, 6, rfl, in_X3, by decide, q270⟩
theorem fJ29_22_11 : FL RJ29 22 11 1 := ⟨RJ4, TJ4, 4, rfl, in_J4, by decide, q239⟩
theorem fJ29_52_12 : FL RJ29 52 12 0 := ⟨RJ23, TJ23, 3, rfl, in_J23, by decide, q936⟩
theorem fJ29_49_12 : FL RJ29 49 12 1 := ⟨RJ23, TJ23, 3, rfl, in_J23, by decide, q939⟩
theorem fJ29_46_13 : FL RJ29 46 13 0 := ⟨RJ29, TJ29, 5, rfl, in_J29, by decide, q1150⟩
theorem fJ29_29_13 : FL RJ29 29 13 1 := ⟨RJ29, TJ29, 5, rfl, in_J29, by decide, q1151⟩
theorem fJ29_33_13 : FL RJ29 33 13 2 := ⟨RJ29, TJ29, 5, rfl, in_J29, by decide, q1152⟩
theorem fJ29_19_13 : FL RJ29 19 13 3 := ⟨RJ29, TJ29, 5, rfl, in_J29, by decide, q1153⟩
theorem fJ29_1_13 : FL RJ29 1 13 4 := ⟨RJ29, TJ29, 5, rfl, in_J29, by decide, q1154⟩
theorem fJ27_25_16 : FL RJ27 25 16 0 := ⟨RJ27, TJ27, 4, rfl, in_J27, by decide, q1125⟩
theorem fJ27_13_16 : FL RJ27 13 16 1 := ⟨RJ27, TJ27, 4, rfl, in_J27, by decide, q1126⟩
theorem fJ27_22_16 : FL RJ27 22 16 2 := ⟨RJ27, TJ27, 4, rfl, in_J27, by decide, q1127⟩
theorem fJ27_1_16 : FL RJ27 1 16 3 := ⟨RJ27, TJ27, 4, rfl, in_J27, by decide, q1128⟩
theorem fJ27_37_15 : FL RJ27 37 15 1 := ⟨RJ25, TJ25, 3, rfl, in_J25, by decide, q1713⟩
theorem fX1_41_0 : FL RX1 41 0 0 := ⟨RX1, TX1, 4, rfl, in_X1, by decide, q958⟩
theorem fX1_48_0 : FL RX1 48 0 1 := ⟨RX1, TX1, 4, rfl, in_X1, by decide, q959⟩
theorem fX1_52_0 : FL RX1 52 0 2 := ⟨RX1, TX1, 4, rfl, in_X1, by decide, q961⟩
theorem fX1_275_0 : FL RX1 275 0 3 := ⟨RX1, TX1, 4, rfl, in_X1, by decide, q963⟩
theorem fX2_31_1 : FL RX2 31 1 0 := ⟨RX2, TX2, 10, rfl, in_X2, by decide, q166⟩
theorem fX2_35_1 : FL RX2 35 1 1 := ⟨RX2, TX2, 10, rfl, in_X2, by decide, q168⟩
theorem fX2_9_1 : FL RX2 9 1 2 := ⟨RX2, TX2, 10, rfl, in_X2, by decide, q170⟩
theorem fX2_53_1 : FL RX2 53 1 3 := ⟨RX2, TX2, 10, rfl, in_X2, by decide, q178⟩
theorem fX2_15_1 : FL RX2 15 1 4 := ⟨RX2, TX2, 10, rfl, in_X2, by decide, q182⟩
theorem fX2_18_1 : FL RX2 18 1 5 := ⟨RX2, TX2, 10, rfl, in_X2, by decide, q183⟩
theorem fX2_21_1 : FL RX2 21 1 6 := ⟨RX2, TX2, 10, rfl, in_X2, by decide, q184⟩
theorem fX2_25_1 : FL RX2 25 1 7 := ⟨RX2, TX2, 10, rfl, in_X2, by decide, q185⟩
theorem fX2_28_1 : FL RX2 28 1 8 := ⟨RX2, TX2, 10, rfl, in_X2, by decide, q186⟩
theorem fX2_57_1 : FL RX2 57 1 9 := ⟨RX2, TX2, 10, rfl, in_X2, by decide, q188⟩
theorem fX10_15_9 : FL RX10 15 9 0 := ⟨RX10, TX10, 2, rfl, in_X10, by decide, q1405⟩
theorem fX10_3_9 : FL RX10 3 9 1 := ⟨RX10, TX10, 2, rfl, in_X10, by decide, q1406⟩
theorem fX8_7_7 : FL RX8 7 7 0 := ⟨RX8, TX8, 3, rfl, in_X8, by decide, q1836⟩
theorem fX8_13_7 : FL RX8 13 7 1 := ⟨RX8, TX8, 3, rfl, in_X8, by decide, q1837⟩
theorem fX8_16_7 : FL RX8 16 7 2 := ⟨RX8, TX8, 3, rfl, in_X8, by decide, q1838⟩
theorem fJ8_198_10 : FL RJ8 198 10 4 := ⟨RX11, TX11, 7, rfl, in_X11, by decide, q383⟩
theorem fJ8_31_10 : FL RJ8 31 10 3 := ⟨RX11, TX11, 7, rfl, in_X11, by decide, q421⟩
theorem fJ8_7_10 : FL RJ8 7 10 0 := ⟨RX11, TX11, 7, rfl, in_X11, by decide, q422⟩
theorem fJ8_17_10 : FL RJ8 17 10 1 := ⟨RX11, TX11, 7, rfl, in_X11, by decide, q423⟩
theorem fJ8_24_10 : FL RJ8 24 10 2 := ⟨RX11, TX11, 7, rfl, in_X11, by decide, q424⟩
theorem fJ7_205_17 : FL RJ7 205 17 0 := ⟨RJ7, TJ7, 1, rfl, in_J7, by decide, q342⟩
theorem fJ23_7_12 : FL RJ23 7 12 0 := ⟨RJ23, TJ23, 3, rfl, in_J23, by decide, q935⟩
theorem fJ23_13_12 : FL RJ23 13 12 1 := ⟨RJ23, TJ23, 3, rfl, in_J23, by decide, q938⟩
theorem fJ23_17_12 : FL RJ23 17 12 2 := ⟨RJ23, TJ23, 3, rfl, in_J23, by decide, q941⟩
theorem fJ2_7_11 : FL RJ2 7 11 0 := ⟨RJ4, TJ4, 4, rfl, in_J4, by decide, q242⟩
theorem fJ2_7_15 : FL RJ2 7 15 0 := ⟨RJ25, TJ25, 3, rfl, in_J25, by decide, q242⟩
theorem fJ26_20_11 : FL RJ26 20 11 0 := ⟨RJ4, TJ4, 4, rfl, in_J4, by decide, q247⟩
theorem fJ26_20_15 : FL RJ26 20 15 0 := ⟨RJ25, TJ25, 3, rfl, in_J25, by decide, q247⟩
theorem fJ4_7_11 : FL RJ4 7 11 1 := ⟨RJ4, TJ4, 4, rfl, in_J4, by decide, q238⟩
theorem fJ4_18_11 : FL RJ4 18 11 2 := ⟨RJ4, TJ4, 4, rfl, in_J4, by decide, q240⟩
theorem fJ4_27_11 : FL RJ4 27 11 3 := ⟨RJ4, TJ4, 4, rfl, in_J4, by decide, q241⟩
theorem fJ4_39_12 : FL RJ4 39 12 0 := ⟨RJ23, TJ23, 3, rfl, in_J23, by decide, q937⟩
theorem fJ4_36_12 : FL RJ4 36 12 1 := ⟨RJ23, TJ23, 3, rfl, in_J23, by decide, q940⟩
theorem fJ4_30_12 : FL RJ4 30 12 2 := ⟨RJ23, TJ23, 3, rfl, in_J23, by decide, q942⟩
theorem fX4_27_3 : FL RX4 27 3 0 := ⟨RX4, TX4, 8, rfl, in_X4, by decide, q583⟩
theorem fX4_14_3 : FL RX4 14 3 1 := ⟨RX4, TX4, 8, rfl, in_X4, by decide, q586⟩
theorem fX4_18_3 : FL RX4 18 3 2 := ⟨RX4, TX4, 8, rfl, in_X4, by decide, q588⟩
theorem fX4_21_3 : FL RX4 21 3 3 := ⟨RX4, TX4, 8, rfl, in_X4, by decide, q590⟩
theorem fX4_24_3 : FL RX4 24 3 4 := ⟨RX4, TX4, 8, rfl, in_X4, by decide, q592⟩
theorem fX4_42_3 : FL RX4 42 3 5 := ⟨RX4, TX4, 8, rfl, in_X4, by decide, q594⟩
theorem fX4_31_3 : FL RX4 31 3 6 := ⟨RX4, TX4, 8, rfl, in_X4, by decide, q597⟩
theorem fX4_35_3 : FL RX4 35 3 7 := ⟨RX4, TX4, 8, rfl, in_X4, by decide, q599⟩
theorem fJ25_9_15 : FL RJ25 9 15 1 := ⟨RJ25, TJ25, 3, rfl, in_J25, by decide, q1714⟩
theorem fJ25_48_15 : FL RJ25 48 15 2 := ⟨RJ25, TJ25, 3, rfl, in_J25, by decide, q1716⟩
theorem fX11_7_10 : FL RX11 7 10 6 := ⟨RX11, TX11, 7, rfl, in_X11, by decide, q1446⟩
theorem fX9_7_8 : FL RX9 7 8 0 := ⟨RX9, TX9, 3, rfl, in_X9, by decide, q1860⟩
theorem fX9_11_8 : FL RX9 11 8 1 := ⟨RX9, TX9, 3, rfl, in_X9, by decide, q1861⟩
theorem fX9_1_8 : FL RX9 1 8 2 := ⟨RX9, TX9, 3, rfl, in_X9, by decide, q1862⟩
theorem fX5_7_4 : FL RX5 7 4 0 := ⟨RX5, TX5, 25, rfl, in_X5, by decide, q2102⟩
theorem fX5_13_4 : FL RX5 13 4 1 := ⟨RX5, TX5, 25, rfl, in_X5, by decide, q2103⟩
theorem fX5_16_4 : FL RX5 16 4 2 := ⟨RX5, TX5, 25, rfl, in_X5, by decide, q2104⟩
theorem fX5_58_4 : FL RX5 58 4 3 := ⟨RX5, TX5, 25, rfl, in_X5, by decide, q2105⟩
theorem fX5_54_4 : FL RX5 54 4 4 := ⟨RX5, TX5, 25, rfl, in_X5, by decide, q2106⟩
theorem fX5_19_4 : FL RX5 19 4 5 := ⟨RX5, TX5, 25, rfl, in_X5, by decide, q2107⟩
theorem fX5_117_4 : FL RX5 117 4 6 := ⟨RX5, TX5, 25, rfl, in_X5, by decide, q2108⟩
theorem fX5_120_4 : FL RX5 120 4 7 := ⟨RX5, TX5, 25, rfl, in_X5, by decide, q2109⟩
theorem fX5_114_4 : FL RX5 114 4 8 := ⟨RX5, TX5, 25, rfl, in_X5, by decide, q2110⟩
theorem fX5_22_4 : FL RX5 22 4 9 := ⟨RX5, TX5, 25, rfl, in_X5, by decide, q2111⟩
theorem fX5_26_4 : FL RX5 26 4 10 := ⟨RX5, TX5, 25, rfl, in_X5, by decide, q2112⟩
theorem fX5_29_4 : FL RX5 29 4 11 := ⟨RX5, TX5, 25, rfl, in_X5, by decide, q2113⟩
theorem fX5_149_4 : FL RX5 149 4 12 := ⟨RX5, TX5, 25, rfl, in_X5, by decide, q2114⟩
theorem fX5_159_4 : FL RX5 159 4 13 := ⟨RX5, TX5, 25, rfl, in_X5, by decide, q2115⟩
theorem fX5_155_4 : FL RX5 155 4 14 := ⟨RX5, TX5, 25, rfl, in_X5, by decide, q2116⟩
theorem fX5_32_4 : FL RX5 32 4 15 := ⟨RX5, TX5, 25, rfl, in_X5, by decide, q2117⟩
theorem fX5_35_4 : FL RX5 35 4 16 := ⟨RX5, TX5, 25, rfl, in_X5, by decide, q2118⟩
theorem fX5_171_4 : FL RX5 171 4 17 := ⟨RX5, TX5, 25, rfl, in_X5, by decide, q2119⟩
theorem fX5_38_4 : FL RX5 38 4 18 := ⟨RX5, TX5, 25, rfl, in_X5, by decide, q2120⟩
theorem fX5_41_4 : FL RX5 41 4 19 := ⟨RX5, TX5, 25, rfl, in_X5, by decide, q2121⟩
theorem fX5_44_4 : FL RX5 44 4 20 := ⟨RX5, TX5, 25, rfl, in_X5, by decide, q2122⟩
theorem fX5_288_4 : FL RX5 288 4 21 := ⟨RX5, TX5, 25, rfl, in_X5, by decide, q2123⟩
theorem fX5_291_4 : FL RX5 291 4 22 := ⟨RX5, TX5, 25, rfl, in_X5, by decide, q2124⟩
theorem fX5_302_4 : FL RX5 302 4 23 := ⟨RX5, TX5, 25, rfl, in_X5, by decide, q2125⟩
theorem fX5_47_4 : FL RX5 47 4 24 := ⟨RX5, TX5, 25, rfl, in_X5, by decide, q2126⟩
theorem fX6_7_5 : FL RX6 7 5 0 := ⟨RX6, TX6, 3, rfl, in_X6, by decide, q1650⟩
theorem fX6_11_5 : FL RX6 11 5 1 := ⟨RX6, TX6, 3, rfl, in_X6, by decide, q1651⟩
theorem fX6_1_5 : FL RX6 1 5 2 := ⟨RX6, TX6, 3, rfl, in_X6, by decide, q1652⟩
theorem fJ5_3_14 : FL RJ5 3 14 0 := ⟨RJ5, TJ5, 3, rfl, in_J5, by decide, q316⟩
theorem fJ5_24_14 : FL RJ5 24 14 1 := ⟨RJ5, TJ5, 3, rfl, in_J5, by decide, q317⟩
theorem fJ5_20_14 : FL RJ5 20 14 2 := ⟨RJ5, TJ5, 3, rfl, in_J5, by decide, q318⟩
theorem fX7_7_6 : FL RX7 7 6 0 := ⟨RX7, TX7, 3, rfl, in_X7, by decide, q1807⟩
theorem fX7_11_6 : FL RX7 11 6 1 := ⟨RX7, TX7, 3, rfl, in_X7, by decide, q1808⟩
theorem fX7_1_6 : FL RX7 1 6 2 := ⟨RX7, TX7, 3, rfl, in_X7, by decide, q1809⟩
theorem fX3_202_1 : FLN RX3 202 1 0 "LakeLevels" := ⟨RX2, TX2, 10, rfl, in_X2, by decide, q167⟩
theorem fX3_205_1 : FLN RX3 205 1 1 "LakeLevels" := ⟨RX2, TX2, 10, rfl, in_X2, by decide, q169⟩
theorem fX3_216_1 : FLN RX3 216 1 2 "LakeLevels" := ⟨RX2, TX2, 10, rfl, in_X2, by decide, q176⟩
theorem fX3_219_1 : FLN RX3 219 1 3 "LakeLevels" := ⟨RX2, TX2, 10, rfl, in_X2, by decide, q181⟩
theorem fX3_198_1 : FLN RX3 198 1 8 "LakeLevels" := ⟨RX2, TX2, 10, rfl, in_X2, by decide, q187⟩
theorem fX3_74_1 : FLN RX3 74 1 9 "LakeLevels" := ⟨RX2, TX2, 10, rfl, in_X2, by decide, q189⟩
theorem fX3_85_3 : FLN RX3 85 3 0 "LakeLevels" := ⟨RX4, TX4, 8, rfl, in_X4, by decide, q584⟩
theorem fX3_152_3 : FLN RX3 152 3 1 "LakeLevels" := ⟨RX4, TX4, 8, rfl, in_X4, by decide, q587⟩
theorem fX3_243_3 : FLN RX3 243 3 2 "LakeLevels" := ⟨RX4, TX4, 8, rfl, in_X4, by decide, q589⟩
theorem fX3_146_3 : FLN RX3 146 3 3 "LakeLevels" := ⟨RX4, TX4, 8, rfl, in_X4, by decide, q591⟩
theorem fX3_232_3 : FLN RX3 232 3 4 "LakeLevels" := ⟨RX4, TX4, 8, rfl, in_X4, by decide, q593⟩
theorem fX3_121_3 : FLN RX3 121 3 5 "LakeLevels" := ⟨RX4, TX4, 8, rfl, in_X4, by decide, q595⟩
theorem fX3_164_3 : FLN RX3 164 3 6 "LakeLevels" := ⟨RX4, TX4, 8, rfl, in_X4, by decide, q598⟩
theorem fX3_168_3 : FLN RX3 168 3 7 "LakeLevels" := ⟨RX4, TX4, 8, rfl, in_X4, by decide, q600⟩
theorem fJ27_28_15 : FLN RJ27 28 15 2 "java/util/ArrayList" := ⟨RJ25, TJ25, 3, rfl, in_J25, by decide, q1715⟩
theorem fX1_141_1 : FLN RX1 141 1 2 "LakeLevels" := ⟨RX2, TX2, 10, rfl, in_X2, by decide, q175⟩
theorem fX1_154_1 : FLN RX1 154 1 3 "LakeLevels" := ⟨RX2, TX2, 10, rfl, in_X2, by decide, q180⟩
theorem fX1_183_1 : FLN RX1 183 1 9 "LakeLevels" := ⟨RX2, TX2, 10, rfl, in_X2, by decide, q190⟩
theorem fX1_80_2 : FLN RX1 80 2 0 "LakeLevels" := ⟨RX3, TX3, 6, rfl, in_X3, by decide, q262⟩
theorem fX1_104_2 : FLN RX1 104 2 1 "LakeLevels" := ⟨RX3, TX3, 6, rfl, in_X3, by decide, q264⟩
theorem fX1_213_2 : FLN RX1 213 2 3 "LakeLevels" := ⟨RX3, TX3, 6, rfl, in_X3, by decide, q267⟩
theorem fX1_207_2 : FLN RX1 207 2 4 "LakeLevels" := ⟨RX3, TX3, 6, rfl, in_X3, by decide, q269⟩
theorem fX1_234_2 : FLN RX1 234 2 5 "LakeLevels" := ⟨RX3, TX3, 6, rfl, in_X3, by decide, q271⟩
theorem fX1_244_3 : FLN RX1 244 3 0 "LakeLevels" := ⟨RX4, TX4, 8, rfl, in_X4, by decide, q585⟩
theorem fX1_227_3 : FLN RX1 227 3 5 "LakeLevels" := ⟨RX4, TX4, 8, rfl, in_X4, by decide, q596⟩
theorem fX1_288_10 : FLN RX1 288 10 6 "LakeLevels" := ⟨RX11, TX11, 7, rfl, in_X11, by decide, q1447⟩
theorem fX10_75_1 : FLN RX10 75 1 2 "LakeLevels" := ⟨RX2, TX2, 10, rfl, in_X2, by decide, q174⟩
theorem fX10_65_1 : FLN RX10 65 1 3 "LakeLevels" := ⟨RX2, TX2, 10, rfl, in_X2, by decide, q179⟩
theorem fX10_22_0 : FLN RX10 22 0 2 "LakeLevels" := ⟨RX1, TX1, 4, rfl, in_X1, by decide, q960⟩
theorem fX10_19_0 : FLN RX10 19 0 3 "LakeLevels" := ⟨RX1, TX1, 4, rfl, in_X1, by decide, q962⟩
theorem fX4_69_1 : FLN RX4 69 1 2 "LakeLevels" := ⟨RX2, TX2, 10, rfl, in_X2, by decide, q173⟩
theorem fX9_32_1 : FLN RX9 32 1 2 "LakeLevels" := ⟨RX2, TX2, 10, rfl, in_X2, by decide, q172⟩
theorem fX6_20_1 : FLN RX6 20 1 2 "LakeLevels" := ⟨RX2, TX2, 10, rfl, in_X2, by decide, q171⟩
theorem fX7_21_1 : FLN RX7 21 1 3 "LakeLevels" := ⟨RX2, TX2, 10, rfl, in_X2, by decide, q177⟩
theorem kX3_3 : KI RX3 3 yJ33_init object_method_1_code 1 0 := ⟨q156, q2521, q222, q155, rfl, ⟨by decide +kernel, by decide +kernel, by decide +kernel⟩⟩
theorem kX3_11 : KI RX3 11 yJ4_init prog_54_method_1_code 1 0 := ⟨q227, q109, q225, q226, rfl, ⟨by decide +kernel, by decide +kernel, by decide +kernel⟩⟩
theorem kX3_62 : KV RX3 62 RX2 yX2_find prog_8_method_13_code 3 none 0 := ⟨lw_V q289 q290 q291 q103 q292, rfl, ⟨by decide +kernel, by decide +kernel, by decide +kernel⟩⟩
theorem kX3_65 : KV RX3 65 RJ4 yJ4_clear prog_54_method_21_code 3 none 0 := ⟨lw_V q555 q556 q557 q109 q558, rfl, ⟨by decide +kernel, by decide +kernel, by decide +kernel⟩⟩
theorem kX3_68 : KS RX3 68 yJ0_fill_2 prog_49_method_117_code 4 none 2 := ⟨lw_S q559 q560 q104 q561, ⟨by decide +kernel, by decide +kernel, by decide +kernel⟩⟩
theorem kX3_78 : KV RX3 78 RX2 yX2_basinCells prog_8_method_18_code 5 (some Jvm.ClassFile.FieldType.long) 1 := ⟨lw_V q563 q564 q565 q103 q566, rfl, ⟨by decide +kernel, by decide +kernel, by decide +kernel⟩⟩
theorem kX3_82 : KI RX3 82 yX4_init prog_7_method_1_code 4 2 := ⟨q569, q121, q567, q568, rfl, ⟨by decide +kernel, by decide +kernel, by decide +kernel⟩⟩
theorem kX3_48 : KV RX3 48 RX3 yX3_add prog_10_method_4_code 4 none 1 := ⟨lw_V q618 q620 qs11 q105 q621, rfl, ⟨by decide +kernel, by decide +kernel, by decide +kernel⟩⟩
theorem kX3_37 : KV RX3 37 RJ4 yJ4_size prog_54_method_16_code 1 (some Jvm.ClassFile.FieldType.int) 0 := ⟨lw_V q622 q623 q624 q109 q625, rfl, ⟨by decide +kernel, by decide +kernel, by decide +kernel⟩⟩
theorem kX3_41 : KV RX3 41 RJ4 yJ4_get prog_54_method_22_code 2 (some (Jvm.ClassFile.FieldType.object "java/lang/Object")) 1 := ⟨lw_V q626 q627 q628 q109 q629, rfl, ⟨by decide +kernel, by decide +kernel, by decide +kernel⟩⟩
theorem kX3_92 : KV RX3 92 RJ4 yJ4_add prog_54_method_24_code 3 none 2 := ⟨lw_V q913 q914 q915 q109 q916, rfl, ⟨by decide +kernel, by decide +kernel, by decide +kernel⟩⟩
theorem kX3_95 : KV RX3 95 RX2 yX2_size prog_8_method_3_code 1 (some Jvm.ClassFile.FieldType.int) 0 := ⟨lw_V q954 q294 q295 q103 q296, rfl, ⟨by decide +kernel, by decide +kernel, by decide +kernel⟩⟩
theorem kX3_135 : KV RX3 135 RX3 yX3_lakeAt prog_10_method_8_code 2 (some (Jvm.ClassFile.FieldType.object "LakeLevels$Lake")) 1 := ⟨lw_V q990 q991 q992 q105 q993, rfl, ⟨by decide +kernel, by decide +kernel, by decide +kernel⟩⟩
theorem kX3_194 : KV RX3 194 RX4 yX4_isWet prog_7_method_14_code 3 (some Jvm.ClassFile.FieldType.boolean) 2 := ⟨lw_V q994 q995 q996 q121 q997, rfl, ⟨by decide +kernel, by decide +kernel, by decide +kernel⟩⟩
theorem kX3_28 : KV RX3 28 RX2 yX2_copy prog_8_method_2_code 2 (some (Jvm.ClassFile.FieldType.object "LakeLevels$Land")) 0 := ⟨lw_V q1032 q1033 q1034 q103 q1035, rfl, ⟨by decide +kernel, by decide +kernel, by decide +kernel⟩⟩
theorem kX3_34 : KI RX3 34 yX3_init prog_10_method_1_code 2 1 := ⟨q221, q105, q1039, q220, rfl, ⟨by decide +kernel, by decide +kernel, by decide +kernel⟩⟩
theorem kX3_45 : KV RX3 45 RX4 yX4_copy prog_7_method_4_code 1 (some (Jvm.ClassFile.FieldType.object "LakeLevels$Lake")) 0 := ⟨lw_V q1040 q1041 q1042 q121 q1043, rfl, ⟨by decide +kernel, by decide +kernel, by decide +kernel⟩⟩
theorem kX3_124 : KV RX3 124 RX3 yX3_pour prog_10_method_10_code 5 none 2 := ⟨lw_V q1052 q1053 q1054 q105 q1055, rfl, ⟨by decide +kernel, by decide +kernel, by decide +kernel⟩⟩
theorem kX3_139 : KV RX3 139 RX4 yX4_add prog_7_method_8_code 3 (some Jvm.ClassFile.FieldType.int) 1 := ⟨lw_V q1056 q1057 q1058 q121 q1059, rfl, ⟨by decide +kernel, by decide +kernel, by decide +kernel⟩⟩
theorem kX3_142 : KV RX3 142 RX3 yX3_afterFull prog_10_method_11_code 4 (some (Jvm.ClassFile.FieldType.object "LakeLevels$Lake")) 1 := ⟨lw_V q1061 q1063 qs23 q105 q1064, rfl, ⟨by decide +kernel, by decide +kernel, by decide +kernel⟩⟩
theorem kX3_149 : KV RX3 149 RX4 yX4_isFull prog_7_method_7_code 1 (some Jvm.ClassFile.FieldType.boolean) 0 := ⟨lw_V q1065 q1066 q1067 q121 q1068, rfl, ⟨by decide +kernel, by decide +kernel, by decide +kernel⟩⟩
theorem kX3_155 : KS RX3 155 yX4_joined prog_7_method_5_code 5 (some (Jvm.ClassFile.FieldType.object "LakeLevels$Lake")) 3 := ⟨lw_S q1069 q1070 q121 q1071, ⟨by decide +kernel, by decide +kernel, by decide +kernel⟩⟩
theorem kX3_159 : KV RX3 159 RX3 yX3_remove prog_10_method_5_code 3 none 1 := ⟨lw_V q1073 q1075 qs24 q105 q1076, rfl, ⟨by decide +kernel, by decide +kernel, by decide +kernel⟩⟩
theorem kX3_208 : KV RX3 208 RX3 yX3_wetCells prog_10_method_16_code 4 (some Jvm.ClassFile.FieldType.int) 0 := ⟨lw_V q1499 q1500 q1501 q105 q1502, rfl, ⟨by decide +kernel, by decide +kernel, by decide +kernel⟩⟩
theorem kX3_187 : KV RX3 187 RX4 yX4_wetCells prog_7_method_15_code 6 (some Jvm.ClassFile.FieldType.int) 1 := ⟨lw_V q1503 q1504 q1505 q121 q1506, rfl, ⟨by decide +kernel, by decide +kernel, by decide +kernel⟩⟩
theorem kX3_210 : KV RX3 210 RX3 yX3_seaCells prog_10_method_19_code 3 (some Jvm.ClassFile.FieldType.int) 0 := ⟨lw_V q1507 q1509 qs36 q105 q1510, rfl, ⟨by decide +kernel, by decide +kernel, by decide +kernel⟩⟩
theorem kX3_213 : KV RX3 213 RX3 yX3_fullLakes prog_10_method_18_code 4 (some Jvm.ClassFile.FieldType.int) 0 := ⟨lw_V q1511 q1513 qs37 q105 q1514, rfl, ⟨by decide +kernel, by decide +kernel, by decide +kernel⟩⟩
theorem kX3_222 : KV RX3 222 RX3 yX3_numberOf prog_10_method_9_code 2 (some Jvm.ClassFile.FieldType.int) 1 := ⟨lw_V q1519 q1520 q1521 q105 q1522, rfl, ⟨by decide +kernel, by decide +kernel, by decide +kernel⟩⟩
theorem kX3_131 : KV RX3 131 RJ4 yJ4_indexOf prog_54_method_32_code 4 (some Jvm.ClassFile.FieldType.int) 1 := ⟨lw_V q1523 q1524 q1525 q109 q1526, rfl, ⟨by decide +kernel, by decide +kernel, by decide +kernel⟩⟩
theorem kX3_226 : KV RX3 226 RX3 yX3_isWet prog_10_method_17_code 3 (some Jvm.ClassFile.FieldType.boolean) 1 := ⟨lw_V q1559 q987 q988 q105 q989, rfl, ⟨by decide +kernel, by decide +kernel, by decide +kernel⟩⟩
theorem kX3_229 : KV RX3 229 RX2 yX2_isPit prog_8_method_15_code 2 (some Jvm.ClassFile.FieldType.boolean) 1 := ⟨lw_V q1560 q538 q539 q103 q540, rfl, ⟨by decide +kernel, by decide +kernel, by decide +kernel⟩⟩
theorem kX3_235 : KS RX3 235 yJ13_bitCount prog_28_method_50_code 2 (some Jvm.ClassFile.FieldType.int) 1 := ⟨lw_S q1571 q1572 q120 q1573, ⟨by decide +kernel, by decide +kernel, by decide +kernel⟩⟩
theorem kX3_240 : KV RX3 240 RX2 yX2_basinsIn prog_8_method_19_code 5 (some Jvm.ClassFile.FieldType.int) 1 := ⟨lw_V q1577 q1578 q1579 q103 q1580, rfl, ⟨by decide +kernel, by decide +kernel, by decide +kernel⟩⟩
theorem kX3_161 : KV RX3 161 RX4 yX4_lowestVolume prog_7_method_9_code 1 (some Jvm.ClassFile.FieldType.int) 0 := ⟨lw_V q1582 q1583 q1584 q121 q1585, rfl, ⟨by decide +kernel, by decide +kernel, by decide +kernel⟩⟩
theorem kX3_246 : KV RX3 246 RX3 yX3_water prog_10_method_15_code 5 (some Jvm.ClassFile.FieldType.long) 0 := ⟨lw_V q1590 q1591 q1592 q105 q1593, rfl, ⟨by decide +kernel, by decide +kernel, by decide +kernel⟩⟩
theorem kX3_128 : KV RX3 128 RX2 yX2_lowestPlace prog_8_method_20_code 6 (some Jvm.ClassFile.FieldType.int) 1 := ⟨lw_V q1727 q1728 q1729 q103 q1730, rfl, ⟨by decide +kernel, by decide +kernel, by decide +kernel⟩⟩
theorem kX3_117 : KV RX3 117 RX3 yX3_find prog_10_method_3_code 2 none 0 := ⟨lw_V q1770 q286 q287 q105 q288, rfl, ⟨by decide +kernel, by decide +kernel, by decide +kernel⟩⟩
theorem kX3_191 : KV RX3 191 RX3 yX3_evaporateOnce prog_10_method_13_code 5 none 0 := ⟨lw_V q1928 q1930 qs41 q105 q1931, rfl, ⟨by decide +kernel, by decide +kernel, by decide +kernel⟩⟩
theorem kX3_183 : KI RX3 183 yJ25_init prog_46_method_3_code 3 1 := ⟨q1666, q135, q1933, q1665, rfl, ⟨by decide +kernel, by decide +kernel, by decide +kernel⟩⟩
theorem kX3_186 : KV RX3 186 RJ25 yJ25_iterator prog_46_method_55_code 1 (some (Jvm.ClassFile.FieldType.object "java/util/Iterator")) 0 := ⟨lw_V q1934 q1778 q2520 q135 q1780, rfl, ⟨by decide +kernel, by decide +kernel, by decide +kernel⟩⟩
theorem kX3_171 : KS RX3 171 yJ12_min prog_29_method_69_code 2 (some Jvm.ClassFile.FieldType.int) 2 := ⟨lw_S q1935 q476 q118 q477, ⟨by decide +kernel, by decide +kernel, by decide +kernel⟩⟩
theorem kX3_177 : KV RX3 177 RX3 yX3_take prog_10_method_12_code 5 none 2 := ⟨lw_V q1936 q1937 q1938 q105 q1939, rfl, ⟨by decide +kernel, by decide +kernel, by decide +kernel⟩⟩
theorem kJ1_1 : KI RJ1 1 yJ33_init object_method_1_code 1 0 := ⟨q156, q2521, q237, q155, rfl, ⟨by decide +kernel, by decide +kernel, by decide +kernel⟩⟩
theorem kJ29_7 : KI RJ29 7 yJ33_init object_method_1_code 1 0 := ⟨q156, q2521, q1148, q155, rfl, ⟨by decide +kernel, by decide +kernel, by decide +kernel⟩⟩
theorem kJ29_25 : KV RJ29 25 RJ4 yJ4_node prog_54_method_31_code 4 (some (Jvm.ClassFile.FieldType.object "java/util/LinkedList$Node")) 1 := ⟨lw_V q1149 q909 q910 q109 q911, rfl, ⟨by decide +kernel, by decide +kernel, by decide +kernel⟩⟩
theorem kJ29_36 : KV RJ29 36 RJ29 yJ29_checkForComodification prog_55_method_12_code 1 none 0 := ⟨lw_V q1310 q1311 q1312 q140 q1313, rfl, ⟨by decide +kernel, by decide +kernel, by decide +kernel⟩⟩
theorem kJ29_39 : KV RJ29 39 RJ29 yJ29_hasNext prog_55_method_2_code 1 (some Jvm.ClassFile.FieldType.boolean) 0 := ⟨lw_V q1314 q1196 q2518 q140 q1198, rfl, ⟨by decide +kernel, by decide +kernel, by decide +kernel⟩⟩
theorem kJ29_68 : KV RJ29 68 RJ4 yJ4_unlink prog_54_method_8_code 5 (some (Jvm.ClassFile.FieldType.object "java/lang/Object")) 1 := ⟨lw_V q1388 q1350 q1351 q109 q1352, rfl, ⟨by decide +kernel, by decide +kernel, by decide +kernel⟩⟩
theorem kJ27_7 : KI RJ27 7 yJ33_init object_method_1_code 1 0 := ⟨q156, q2521, q1121, q155, rfl, ⟨by decide +kernel, by decide +kernel, by decide +kernel⟩⟩
theorem kJ27_31 : KV RJ27 31 RJ27 yJ27_checkForComodification prog_47_method_6_code 1 none 0 := ⟨lw_V q1297 q1298 q1299 q138 q1302, rfl, ⟨by decide +kernel, by decide +kernel, by decide +kernel⟩⟩
theorem kJ27_47 : KV RJ27 47 RJ25 yJ25_remove prog_46_method_29_code 4 (some (Jvm.ClassFile.FieldType.object "java/lang/Object")) 1 := ⟨lw_V q1376 q1339 q2519 q135 q1340, rfl, ⟨by decide +kernel, by decide +kernel, by decide +kernel⟩⟩
theorem kX1_25 : KI RX1 25 yJ33_init object_method_1_code 1 0 := ⟨q156, q2521, q154, q155, rfl, ⟨by decide +kernel, by decide +kernel, by decide +kernel⟩⟩
theorem kX1_32 : KI RX1 32 yX2_init prog_8_method_1_code 3 2 := ⟨q161, q103, q159, q160, rfl, ⟨by decide +kernel, by decide +kernel, by decide +kernel⟩⟩
theorem kX1_35 : KS RX1 35 yX1_dry prog_1_method_9_code 2 (some (Jvm.ClassFile.FieldType.object "LakeLevels$State")) 1 := ⟨lw_S q214 q215 q102 q216, ⟨by decide +kernel, by decide +kernel, by decide +kernel⟩⟩
theorem kX1_58 : KI RX1 58 yX3_init prog_10_method_1_code 2 1 := ⟨q221, q105, q219, q220, rfl, ⟨by decide +kernel, by decide +kernel, by decide +kernel⟩⟩
theorem kX1_61 : KV RX1 61 RX3 yX3_find prog_10_method_3_code 2 none 0 := ⟨lw_V q285 q286 q287 q105 q288, rfl, ⟨by decide +kernel, by decide +kernel, by decide +kernel⟩⟩
theorem kX1_19 : KS RX1 19 yJ13_numberOfTrailingZeros prog_28_method_49_code 3 (some Jvm.ClassFile.FieldType.int) 1 := ⟨lw_S q544 q545 q120 q546, ⟨by decide +kernel, by decide +kernel, by decide +kernel⟩⟩
theorem kX1_47 : KI RX1 47 yJ5_init prog_45_method_3_code 1 0 := ⟨q312, q110, q957, q311, rfl, ⟨by decide +kernel, by decide +kernel, by decide +kernel⟩⟩
theorem kX1_84 : KV RX1 84 RX1 yX1_land prog_1_method_11_code 1 (some (Jvm.ClassFile.FieldType.object "LakeLevels$Land")) 0 := ⟨lw_V q977 q979 qs17 q102 q980, rfl, ⟨by decide +kernel, by decide +kernel, by decide +kernel⟩⟩
theorem kX1_87 : KV RX1 87 RX2 yX2_size prog_8_method_3_code 1 (some Jvm.ClassFile.FieldType.int) 0 := ⟨lw_V q981 q294 q295 q103 q296, rfl, ⟨by decide +kernel, by decide +kernel, by decide +kernel⟩⟩
theorem kX1_258 : KV RX1 258 RX1 yX1_depthOf prog_1_method_32_code 4 (some (Jvm.ClassFile.FieldType.array Jvm.ClassFile.FieldType.int)) 1 := ⟨lw_V q982 q984 qs18 q102 q985, rfl, ⟨by decide +kernel, by decide +kernel, by decide +kernel⟩⟩
theorem kX1_251 : KV RX1 251 RX3 yX3_isWet prog_10_method_17_code 3 (some Jvm.ClassFile.FieldType.boolean) 1 := ⟨lw_V q986 q987 q988 q105 q989, rfl, ⟨by decide +kernel, by decide +kernel, by decide +kernel⟩⟩
theorem kX1_255 : KV RX1 255 RX3 yX3_lakeAt prog_10_method_8_code 2 (some (Jvm.ClassFile.FieldType.object "LakeLevels$Lake")) 1 := ⟨lw_V q1017 q991 q992 q105 q993, rfl, ⟨by decide +kernel, by decide +kernel, by decide +kernel⟩⟩
theorem kX1_247 : KV RX1 247 RX4 yX4_levelPart prog_7_method_13_code 7 (some Jvm.ClassFile.FieldType.int) 2 := ⟨lw_V q1018 q999 q1000 q121 q1001, rfl, ⟨by decide +kernel, by decide +kernel, by decide +kernel⟩⟩
theorem kX1_269 : KV RX1 269 RX1 yX1_wouldJoin prog_1_method_38_code 3 (some Jvm.ClassFile.FieldType.boolean) 1 := ⟨lw_V q1023 q1025 qs22 q102 q1026, rfl, ⟨by decide +kernel, by decide +kernel, by decide +kernel⟩⟩
theorem kX1_72 : KV RX1 72 RX3 yX3_copy prog_10_method_2_code 3 (some (Jvm.ClassFile.FieldType.object "LakeLevels$State")) 0 := ⟨lw_V q1027 q1028 q1029 q105 q1030, rfl, ⟨by decide +kernel, by decide +kernel, by decide +kernel⟩⟩
theorem kX1_216 : KV RX1 216 RX3 yX3_rain prog_10_method_24_code 3 none 1 := ⟨lw_V q1048 q1049 q1050 q105 q1051, rfl, ⟨by decide +kernel, by decide +kernel, by decide +kernel⟩⟩
theorem kX1_108 : KV RX1 108 RJ4 yJ4_size prog_54_method_16_code 1 (some Jvm.ClassFile.FieldType.int) 0 := ⟨lw_V q1389 q623 q624 q109 q625, rfl, ⟨by decide +kernel, by decide +kernel, by decide +kernel⟩⟩
theorem kX1_283 : KV RX1 283 RX10 yX10_parse prog_9_method_9_code 4 (some (Jvm.ClassFile.FieldType.object "LakeLevels$Land")) 0 := ⟨lw_V q1412 q1413 q1414 q147 q1415, rfl, ⟨by decide +kernel, by decide +kernel, by decide +kernel⟩⟩
theorem kX1_138 : KV RX1 138 RX1 yX1_save prog_1_method_10_code 1 none 0 := ⟨lw_V q1476 q1478 qs35 q102 q1479, rfl, ⟨by decide +kernel, by decide +kernel, by decide +kernel⟩⟩
theorem kX1_64 : KV RX1 64 RJ5 yJ5_size prog_45_method_37_code 1 (some Jvm.ClassFile.FieldType.int) 0 := ⟨lw_V q1480 q1481 q1482 q110 q1483, rfl, ⟨by decide +kernel, by decide +kernel, by decide +kernel⟩⟩
theorem kX1_68 : KV RX1 68 RJ5 yJ5_removeFirst prog_45_method_18_code 2 (some (Jvm.ClassFile.FieldType.object "java/lang/Object")) 0 := ⟨lw_V q1487 q487 q488 q110 q489, rfl, ⟨by decide +kernel, by decide +kernel, by decide +kernel⟩⟩
theorem kX1_76 : KV RX1 76 RJ5 yJ5_addLast prog_45_method_13_code 3 none 1 := ⟨lw_V q1488 q347 q348 q110 q349, rfl, ⟨by decide +kernel, by decide +kernel, by decide +kernel⟩⟩
theorem kX1_193 : KV RX1 193 RX3 yX3_count prog_10_method_20_code 2 (some Jvm.ClassFile.FieldType.int) 1 := ⟨lw_V q1495 q1496 q1497 q105 q1498, rfl, ⟨by decide +kernel, by decide +kernel, by decide +kernel⟩⟩
theorem kX1_187 : KV RX1 187 RX3 yX3_cell prog_10_method_21_code 3 (some Jvm.ClassFile.FieldType.int) 2 := ⟨lw_V q1515 q1516 q1517 q105 q1518, rfl, ⟨by decide +kernel, by decide +kernel, by decide +kernel⟩⟩
theorem kX1_240 : KV RX1 240 RX3 yX3_lake prog_10_method_22_code 3 (some Jvm.ClassFile.FieldType.int) 2 := ⟨lw_V q1567 q1568 q1569 q105 q1570, rfl, ⟨by decide +kernel, by decide +kernel, by decide +kernel⟩⟩
theorem kX1_237 : KV RX1 237 RX3 yX3_balance prog_10_method_23_code 2 (some Jvm.ClassFile.FieldType.long) 1 := ⟨lw_V q1586 q1587 q1588 q105 q1589, rfl, ⟨by decide +kernel, by decide +kernel, by decide +kernel⟩⟩
theorem kX1_88 : KS RX1 88 yX1_inRange prog_1_method_1_code 3 (some Jvm.ClassFile.FieldType.boolean) 3 := ⟨lw_S q1602 q1603 q102 q1604, ⟨by decide +kernel, by decide +kernel, by decide +kernel⟩⟩
theorem kX1_135 : KS RX1 135 yX1_require prog_1_method_2_code 1 none 1 := ⟨lw_S q1605 q1606 q102 q1607, ⟨by decide +kernel, by decide +kernel, by decide +kernel⟩⟩
theorem kX1_96 : KV RX1 96 RX1 yX1_requireCell prog_1_method_12_code 2 none 1 := ⟨lw_V q1634 q1636 qs38 q102 q1637, rfl, ⟨by decide +kernel, by decide +kernel, by decide +kernel⟩⟩
theorem kX1_92 : KS RX1 92 yX1_requireIndex prog_1_method_3_code 1 none 1 := ⟨lw_S q1638 q1639 q102 q1640, ⟨by decide +kernel, by decide +kernel, by decide +kernel⟩⟩
theorem kX1_147 : KI RX1 147 yX6_init prog_2_method_1_code 4 3 := ⟨q1648, q134, q1646, q1647, rfl, ⟨by decide +kernel, by decide +kernel, by decide +kernel⟩⟩
theorem kX1_150 : KS RX1 150 yX1_change prog_1_method_15_code 4 none 2 := ⟨lw_S q1660 q1661 q102 q1662, ⟨by decide +kernel, by decide +kernel, by decide +kernel⟩⟩
theorem kX1_119 : KI RX1 119 yJ25_init prog_46_method_3_code 3 1 := ⟨q1666, q135, q1664, q1665, rfl, ⟨by decide +kernel, by decide +kernel, by decide +kernel⟩⟩
theorem kX1_122 : KV RX1 122 RX3 yX3_lowestPlaces prog_10_method_7_code 5 (some (Jvm.ClassFile.FieldType.array Jvm.ClassFile.FieldType.int)) 0 := ⟨lw_V q1723 q1724 q1725 q105 q1726, rfl, ⟨by decide +kernel, by decide +kernel, by decide +kernel⟩⟩
theorem kX1_131 : KV RX1 131 RX3 yX3_settle prog_10_method_6_code 6 none 2 := ⟨lw_V q1766 q1767 q1768 q105 q1769, rfl, ⟨by decide +kernel, by decide +kernel, by decide +kernel⟩⟩
theorem kX1_158 : KS RX1 158 yX1_has prog_1_method_5_code 3 (some Jvm.ClassFile.FieldType.boolean) 2 := ⟨lw_S q1800 q302 q102 q303, ⟨by decide +kernel, by decide +kernel, by decide +kernel⟩⟩
theorem kX1_164 : KI RX1 164 yX7_init prog_3_method_1_code 4 3 := ⟨q1805, q144, q1803, q1804, rfl, ⟨by decide +kernel, by decide +kernel, by decide +kernel⟩⟩
theorem kX1_167 : KV RX1 167 RX1 yX1_requireNeighbors prog_1_method_13_code 3 none 2 := ⟨lw_V q1824 q1826 qs40 q102 q1827, rfl, ⟨by decide +kernel, by decide +kernel, by decide +kernel⟩⟩
theorem kX1_100 : KV RX1 100 RX2 yX2_areNeighbors prog_8_method_4_code 4 (some Jvm.ClassFile.FieldType.boolean) 2 := ⟨lw_V q1828 q507 q508 q103 q509, rfl, ⟨by decide +kernel, by decide +kernel, by decide +kernel⟩⟩
theorem kX1_170 : KV RX1 170 RX2 yX2_gate prog_8_method_6_code 3 (some Jvm.ClassFile.FieldType.int) 2 := ⟨lw_V q1829 q521 q522 q103 q523, rfl, ⟨by decide +kernel, by decide +kernel, by decide +kernel⟩⟩
theorem kX1_176 : KI RX1 176 yX8_init prog_6_method_1_code 4 3 := ⟨q1834, q145, q1832, q1833, rfl, ⟨by decide +kernel, by decide +kernel, by decide +kernel⟩⟩
theorem kX1_182 : KI RX1 182 yX9_init prog_4_method_1_code 4 3 := ⟨q1858, q146, q1856, q1857, rfl, ⟨by decide +kernel, by decide +kernel, by decide +kernel⟩⟩
theorem kX1_190 : KV RX1 190 RX2 yX2_threshold prog_8_method_8_code 3 (some Jvm.ClassFile.FieldType.int) 2 := ⟨lw_V q1884 q514 q515 q103 q516, rfl, ⟨by decide +kernel, by decide +kernel, by decide +kernel⟩⟩
theorem kX1_198 : KV RX1 198 RX3 yX3_water prog_10_method_15_code 5 (some Jvm.ClassFile.FieldType.long) 0 := ⟨lw_V q1901 q1591 q1592 q105 q1593, rfl, ⟨by decide +kernel, by decide +kernel, by decide +kernel⟩⟩
theorem kX1_204 : KS RX1 204 yX1_requireState prog_1_method_4_code 1 none 1 := ⟨lw_S q1903 q1904 q102 q1905, ⟨by decide +kernel, by decide +kernel, by decide +kernel⟩⟩
theorem kX1_210 : KV RX1 210 RX3 yX3_pour prog_10_method_10_code 5 none 2 := ⟨lw_V q1909 q1053 q1054 q105 q1055, rfl, ⟨by decide +kernel, by decide +kernel, by decide +kernel⟩⟩
theorem kX1_219 : KV RX1 219 RX3 yX3_evaporate prog_10_method_14_code 5 (some Jvm.ClassFile.FieldType.long) 1 := ⟨lw_V q1924 q1925 q1926 q105 q1927, rfl, ⟨by decide +kernel, by decide +kernel, by decide +kernel⟩⟩
theorem kX1_223 : KV RX1 223 RX1 yX1_at prog_1_method_14_code 2 (some (Jvm.ClassFile.FieldType.object "LakeLevels$Lake")) 1 := ⟨lw_V q1947 q1949 qs42 q102 q1950, rfl, ⟨by decide +kernel, by decide +kernel, by decide +kernel⟩⟩
theorem kX1_111 : KV RX1 111 RJ4 yJ4_get prog_54_method_22_code 2 (some (Jvm.ClassFile.FieldType.object "java/lang/Object")) 1 := ⟨lw_V q1951 q627 q628 q109 q629, rfl, ⟨by decide +kernel, by decide +kernel, by decide +kernel⟩⟩
theorem kX1_230 : KV RX1 230 RX3 yX3_take prog_10_method_12_code 5 none 2 := ⟨lw_V q1952 q1937 q1938 q105 q1939, rfl, ⟨by decide +kernel, by decide +kernel, by decide +kernel⟩⟩
theorem kX1_262 : KV RX1 262 RX2 yX2_course prog_8_method_17_code 5 (some Jvm.ClassFile.FieldType.long) 1 := ⟨lw_V q1995 q1996 q1997 q103 q1998, rfl, ⟨by decide +kernel, by decide +kernel, by decide +kernel⟩⟩
theorem kX1_266 : KV RX1 266 RX1 yX1_wouldBeWet prog_1_method_36_code 5 (some Jvm.ClassFile.FieldType.boolean) 3 := ⟨lw_V q2007 q2009 qs43 q102 q2010, rfl, ⟨by decide +kernel, by decide +kernel, by decide +kernel⟩⟩
theorem kX1_272 : KV RX1 272 RX3 yX3_wetCells prog_10_method_16_code 4 (some Jvm.ClassFile.FieldType.int) 0 := ⟨lw_V q2018 q1500 q1501 q105 q1502, rfl, ⟨by decide +kernel, by decide +kernel, by decide +kernel⟩⟩
theorem kX1_291 : KV RX1 291 RJ5 yJ5_isEmpty prog_45_method_38_code 1 (some Jvm.ClassFile.FieldType.boolean) 0 := ⟨lw_V q2033 q483 q484 q110 q485, rfl, ⟨by decide +kernel, by decide +kernel, by decide +kernel⟩⟩
theorem kX1_295 : KV RX1 295 RJ5 yJ5_removeLast prog_45_method_19_code 2 (some (Jvm.ClassFile.FieldType.object "java/lang/Object")) 0 := ⟨lw_V q2034 q2035 q2036 q110 q2037, rfl, ⟨by decide +kernel, by decide +kernel, by decide +kernel⟩⟩
theorem kJ9_7 : KI RJ9 7 yJ8_init_2 prog_37_method_2_code 2 1 := ⟨q419, q114, q417, q418, rfl, ⟨by decide +kernel, by decide +kernel, by decide +kernel⟩⟩
theorem kJ9_13 : KI RJ9 13 yJ8_init_3 prog_37_method_4_code 2 1 := ⟨q1250, q114, q1248, q1249, rfl, ⟨by decide +kernel, by decide +kernel, by decide +kernel⟩⟩
theorem kJ9_1 : KI RJ9 1 yJ8_init prog_37_method_1_code 1 0 := ⟨q386, q114, q1334, q385, rfl, ⟨by decide +kernel, by decide +kernel, by decide +kernel⟩⟩
theorem kJ9_16 : KI RJ9 16 yJ8_init_4 prog_37_method_5_code 5 4 := ⟨q1445, q114, q1443, q1444, rfl, ⟨by decide +kernel, by decide +kernel, by decide +kernel⟩⟩
theorem kX2_3 : KI RX2 3 yJ33_init object_method_1_code 1 0 := ⟨q156, q2521, q162, q155, rfl, ⟨by decide +kernel, by decide +kernel, by decide +kernel⟩⟩
theorem kX2_38 : KS RX2 38 yJ0_fill prog_49_method_103_code 4 none 2 := ⟨lw_S q163 q164 q104 q165, ⟨by decide +kernel, by decide +kernel, by decide +kernel⟩⟩
theorem kX2_112 : KV RX2 112 RX2 yX2_size prog_8_method_3_code 1 (some Jvm.ClassFile.FieldType.int) 0 := ⟨lw_V q293 q294 q295 q103 q296, rfl, ⟨by decide +kernel, by decide +kernel, by decide +kernel⟩⟩
theorem kX2_125 : KV RX2 125 RX2 yX2_plainBefore prog_8_method_14_code 5 (some Jvm.ClassFile.FieldType.long) 1 := ⟨lw_V q297 q299 qs0 q103 q300, rfl, ⟨by decide +kernel, by decide +kernel, by decide +kernel⟩⟩
theorem kX2_129 : KV RX2 129 RX2 yX2_plainOf prog_8_method_10_code 7 (some Jvm.ClassFile.FieldType.long) 1 := ⟨lw_V q304 q306 qs1 q103 q307, rfl, ⟨by decide +kernel, by decide +kernel, by decide +kernel⟩⟩
theorem kX2_89 : KI RX2 89 yJ5_init prog_45_method_3_code 1 0 := ⟨q312, q110, q310, q311, rfl, ⟨by decide +kernel, by decide +kernel, by decide +kernel⟩⟩
theorem kX2_90 : KS RX2 90 yJ7_valueOf prog_25_method_22_code 1 (some (Jvm.ClassFile.FieldType.object "java/lang/Integer")) 1 := ⟨lw_S q326 q327 q112 q328, ⟨by decide +kernel, by decide +kernel, by decide +kernel⟩⟩
theorem kX2_96 : KV RX2 96 RJ5 yJ5_addLast prog_45_method_13_code 3 none 1 := ⟨lw_V q346 q347 q348 q110 q349, rfl, ⟨by decide +kernel, by decide +kernel, by decide +kernel⟩⟩
theorem kX2_100 : KV RX2 100 RJ5 yJ5_isEmpty prog_45_method_38_code 1 (some Jvm.ClassFile.FieldType.boolean) 0 := ⟨lw_V q482 q483 q484 q110 q485, rfl, ⟨by decide +kernel, by decide +kernel, by decide +kernel⟩⟩
theorem kX2_104 : KV RX2 104 RJ5 yJ5_removeFirst prog_45_method_18_code 2 (some (Jvm.ClassFile.FieldType.object "java/lang/Object")) 0 := ⟨lw_V q486 q487 q488 q110 q489, rfl, ⟨by decide +kernel, by decide +kernel, by decide +kernel⟩⟩
theorem kX2_108 : KV RX2 108 RJ7 yJ7_intValue prog_25_method_27_code 1 (some Jvm.ClassFile.FieldType.int) 0 := ⟨lw_V q498 q499 q500 q112 q501, rfl, ⟨by decide +kernel, by decide +kernel, by decide +kernel⟩⟩
theorem kX2_119 : KV RX2 119 RX2 yX2_runs prog_8_method_9_code 3 (some Jvm.ClassFile.FieldType.boolean) 2 := ⟨lw_V q502 q504 qs5 q103 q505, rfl, ⟨by decide +kernel, by decide +kernel, by decide +kernel⟩⟩
theorem kX2_80 : KV RX2 80 RX2 yX2_areNeighbors prog_8_method_4_code 4 (some Jvm.ClassFile.FieldType.boolean) 2 := ⟨lw_V q506 q507 q508 q103 q509, rfl, ⟨by decide +kernel, by decide +kernel, by decide +kernel⟩⟩
theorem kX2_60 : KS RX2 60 yJ12_abs prog_29_method_59_code 1 (some Jvm.ClassFile.FieldType.int) 1 := ⟨lw_S q510 q511 q118 q512, ⟨by decide +kernel, by decide +kernel, by decide +kernel⟩⟩
theorem kX2_84 : KV RX2 84 RX2 yX2_threshold prog_8_method_8_code 3 (some Jvm.ClassFile.FieldType.int) 2 := ⟨lw_V q513 q514 q515 q103 q516, rfl, ⟨by decide +kernel, by decide +kernel, by decide +kernel⟩⟩
theorem kX2_74 : KS RX2 74 yJ12_max prog_29_method_65_code 2 (some Jvm.ClassFile.FieldType.int) 2 := ⟨lw_S q517 q518 q118 q519, ⟨by decide +kernel, by decide +kernel, by decide +kernel⟩⟩
theorem kX2_77 : KV RX2 77 RX2 yX2_gate prog_8_method_6_code 3 (some Jvm.ClassFile.FieldType.int) 2 := ⟨lw_V q520 q521 q522 q103 q523, rfl, ⟨by decide +kernel, by decide +kernel, by decide +kernel⟩⟩
theorem kX2_66 : KV RX2 66 RX2 yX2_gates prog_8_method_5_code 3 (some (Jvm.ClassFile.FieldType.array Jvm.ClassFile.FieldType.int)) 2 := ⟨lw_V q524 q526 qs6 q103 q527, rfl, ⟨by decide +kernel, by decide +kernel, by decide +kernel⟩⟩
theorem kX2_70 : KS RX2 70 yJ12_min prog_29_method_69_code 2 (some Jvm.ClassFile.FieldType.int) 2 := ⟨lw_S q528 q476 q118 q477, ⟨by decide +kernel, by decide +kernel, by decide +kernel⟩⟩
theorem kX2_132 : KV RX2 132 RX2 yX2_nextOf prog_8_method_12_code 4 (some Jvm.ClassFile.FieldType.int) 1 := ⟨lw_V q529 q531 qs7 q103 q532, rfl, ⟨by decide +kernel, by decide +kernel, by decide +kernel⟩⟩
theorem kX2_122 : KV RX2 122 RX2 yX2_below prog_8_method_11_code 5 (some Jvm.ClassFile.FieldType.int) 1 := ⟨lw_V q533 q535 qs8 q103 q536, rfl, ⟨by decide +kernel, by decide +kernel, by decide +kernel⟩⟩
theorem kX2_136 : KV RX2 136 RX2 yX2_isPit prog_8_method_15_code 2 (some Jvm.ClassFile.FieldType.boolean) 1 := ⟨lw_V q537 q538 q539 q103 q540, rfl, ⟨by decide +kernel, by decide +kernel, by decide +kernel⟩⟩
theorem kX2_143 : KV RX2 143 RX2 yX2_end prog_8_method_16_code 3 (some Jvm.ClassFile.FieldType.int) 1 := ⟨lw_V q551 q553 qs9 q103 q554, rfl, ⟨by decide +kernel, by decide +kernel, by decide +kernel⟩⟩
theorem kX2_44 : KI RX2 44 yX2_init prog_8_method_1_code 3 2 := ⟨q161, q103, q1037, q160, rfl, ⟨by decide +kernel, by decide +kernel, by decide +kernel⟩⟩
theorem kX2_146 : KV RX2 146 RX2 yX2_basinCells prog_8_method_18_code 5 (some Jvm.ClassFile.FieldType.long) 1 := ⟨lw_V q1581 q564 q565 q103 q566, rfl, ⟨by decide +kernel, by decide +kernel, by decide +kernel⟩⟩
theorem kX10_9 : KI RX10 9 yJ33_init object_method_1_code 1 0 := ⟨q156, q2521, q1404, q155, rfl, ⟨by decide +kernel, by decide +kernel, by decide +kernel⟩⟩
theorem kX10_69 : KV RX10 69 RX10 yX10_side prog_9_method_5_code 1 (some Jvm.ClassFile.FieldType.int) 0 := ⟨lw_V q1416 q1418 qs28 q147 q1419, rfl, ⟨by decide +kernel, by decide +kernel, by decide +kernel⟩⟩
theorem kX10_31 : KV RX10 31 RX10 yX10_isAt prog_9_method_2_code 3 (some Jvm.ClassFile.FieldType.boolean) 2 := ⟨lw_V q1420 q1422 qs29 q147 q1423, rfl, ⟨by decide +kernel, by decide +kernel, by decide +kernel⟩⟩
theorem kX10_35 : KV RX10 35 RX10 yX10_check prog_9_method_3_code 3 none 2 := ⟨lw_V q1424 q1426 qs30 q147 q1427, rfl, ⟨by decide +kernel, by decide +kernel, by decide +kernel⟩⟩
theorem kX10_28 : KI RX10 28 yX11_init prog_11_method_1_code 2 1 := ⟨q1439, q148, q1437, q1438, rfl, ⟨by decide +kernel, by decide +kernel, by decide +kernel⟩⟩
theorem kX10_72 : KI RX10 72 yX2_init prog_8_method_1_code 3 2 := ⟨q161, q103, q1453, q160, rfl, ⟨by decide +kernel, by decide +kernel, by decide +kernel⟩⟩
theorem kX10_39 : KV RX10 39 RX2 yX2_size prog_8_method_3_code 1 (some Jvm.ClassFile.FieldType.int) 0 := ⟨lw_V q1454 q294 q295 q103 q296, rfl, ⟨by decide +kernel, by decide +kernel, by decide +kernel⟩⟩
theorem kX10_49 : KV RX10 49 RX10 yX10_pass prog_9_method_4_code 2 none 1 := ⟨lw_V q1455 q1457 qs31 q147 q1458, rfl, ⟨by decide +kernel, by decide +kernel, by decide +kernel⟩⟩
theorem kX10_45 : KV RX10 45 RX10 yX10_number prog_9_method_6_code 4 (some Jvm.ClassFile.FieldType.int) 1 := ⟨lw_V q1459 q1461 qs32 q147 q1462, rfl, ⟨by decide +kernel, by decide +kernel, by decide +kernel⟩⟩
theorem kX10_79 : KV RX10 79 RX10 yX10_item prog_9_method_8_code 3 none 1 := ⟨lw_V q1463 q1465 qs33 q147 q1466, rfl, ⟨by decide +kernel, by decide +kernel, by decide +kernel⟩⟩
theorem kX10_61 : KV RX10 61 RX10 yX10_gate prog_9_method_7_code 5 none 1 := ⟨lw_V q1467 q1469 qs34 q147 q1470, rfl, ⟨by decide +kernel, by decide +kernel, by decide +kernel⟩⟩
theorem kX10_53 : KV RX10 53 RX2 yX2_areNeighbors prog_8_method_4_code 4 (some Jvm.ClassFile.FieldType.boolean) 2 := ⟨lw_V q1471 q507 q508 q103 q509, rfl, ⟨by decide +kernel, by decide +kernel, by decide +kernel⟩⟩
theorem kX10_57 : KV RX10 57 RX2 yX2_setGate prog_8_method_7_code 4 none 3 := ⟨lw_V q1472 q1473 q1474 q103 q1475, rfl, ⟨by decide +kernel, by decide +kernel, by decide +kernel⟩⟩
theorem kX8_19 : KV RX8 19 RX2 yX2_setGate prog_8_method_7_code 4 none 3 := ⟨lw_V q1765 q1473 q1474 q103 q1475, rfl, ⟨by decide +kernel, by decide +kernel, by decide +kernel⟩⟩
theorem kX8_1 : KI RX8 1 yJ33_init object_method_1_code 1 0 := ⟨q156, q2521, q1835, q155, rfl, ⟨by decide +kernel, by decide +kernel, by decide +kernel⟩⟩
theorem kJ0_300 : KS RJ0 300 yJ0_copyOf_2 prog_49_method_120_code 4 (some (Jvm.ClassFile.FieldType.array (Jvm.ClassFile.FieldType.object "java/lang/Object"))) 3 := ⟨lw_S q470 q471 q104 q472, ⟨by decide +kernel, by decide +kernel, by decide +kernel⟩⟩
theorem kJ0_304 : KS RJ0 304 yJ12_min prog_29_method_69_code 2 (some Jvm.ClassFile.FieldType.int) 2 := ⟨lw_S q475 q476 q118 q477, ⟨by decide +kernel, by decide +kernel, by decide +kernel⟩⟩
theorem kJ0_339 : KS RJ0 339 yJ0_copyOfRangeByte prog_49_method_133_code 5 (some (Jvm.ClassFile.FieldType.array Jvm.ClassFile.FieldType.byte)) 3 := ⟨lw_S q851 q852 q104 q853, ⟨by decide +kernel, by decide +kernel, by decide +kernel⟩⟩
theorem kJ0_343 : KS RJ0 343 yJ0_checkLength prog_49_method_131_code 2 none 2 := ⟨lw_S q854 q855 q104 q856, ⟨by decide +kernel, by decide +kernel, by decide +kernel⟩⟩
theorem kJ8_1 : KI RJ8 1 yJ33_init object_method_1_code 1 0 := ⟨q156, q2521, q387, q155, rfl, ⟨by decide +kernel, by decide +kernel, by decide +kernel⟩⟩
theorem kJ7_199 : KI RJ7 199 yJ7_init prog_25_method_23_code 2 1 := ⟨q337, q112, q335, q336, rfl, ⟨by decide +kernel, by decide +kernel, by decide +kernel⟩⟩
theorem kJ7_211 : KV RJ7 211 RJ7 yJ7_intValue prog_25_method_27_code 1 (some Jvm.ClassFile.FieldType.int) 0 := ⟨lw_V q1549 q499 q500 q112 q501, rfl, ⟨by decide +kernel, by decide +kernel, by decide +kernel⟩⟩
theorem kJ23_1 : KI RJ23 1 yJ33_init object_method_1_code 1 0 := ⟨q156, q2521, q934, q155, rfl, ⟨by decide +kernel, by decide +kernel, by decide +kernel⟩⟩
theorem kJ3_1 : KI RJ3 1 yJ2_init prog_41_method_1_code 1 0 := ⟨q233, q107, q231, q232, rfl, ⟨by decide +kernel, by decide +kernel, by decide +kernel⟩⟩
theorem kJ2_1 : KI RJ2 1 yJ1_init prog_40_method_1_code 1 0 := ⟨q236, q106, q234, q235, rfl, ⟨by decide +kernel, by decide +kernel, by decide +kernel⟩⟩
theorem kJ13_311 : KS RJ13 311 yJ7_numberOfTrailingZeros prog_25_method_48_code 2 (some Jvm.ClassFile.FieldType.int) 1 := ⟨lw_S q547 q548 q112 q549, ⟨by decide +kernel, by decide +kernel, by decide +kernel⟩⟩
theorem kX0_89 : KI RX0 89 yX1_init prog_1_method_8_code 1 0 := ⟨q153, q102, q151, q152, rfl, ⟨by decide +kernel, by decide +kernel, by decide +kernel⟩⟩
theorem kX0_155 : KV RX0 155 RX1 yX1_deepest prog_1_method_34_code 5 (some Jvm.ClassFile.FieldType.int) 0 := ⟨lw_V q973 q974 q975 q102 q976, rfl, ⟨by decide +kernel, by decide +kernel, by decide +kernel⟩⟩
theorem kX0_165 : KV RX0 165 RX1 yX1_rainToJoin prog_1_method_39_code 2 (some Jvm.ClassFile.FieldType.int) 0 := ⟨lw_V q1019 q1020 q1021 q102 q1022, rfl, ⟨by decide +kernel, by decide +kernel, by decide +kernel⟩⟩
theorem kX0_175 : KV RX0 175 RX1 yX1_clearText prog_1_method_42_code 2 (some Jvm.ClassFile.FieldType.int) 0 := ⟨lw_V q1390 q1391 q1392 q102 q1393, rfl, ⟨by decide +kernel, by decide +kernel, by decide +kernel⟩⟩
theorem kX0_187 : KV RX0 187 RX1 yX1_digest prog_1_method_45_code 6 (some Jvm.ClassFile.FieldType.long) 0 := ⟨lw_V q1489 q1490 q1491 q102 q1492, rfl, ⟨by decide +kernel, by decide +kernel, by decide +kernel⟩⟩
theorem kX0_7 : KV RX0 7 RX1 yX1_begin prog_1_method_16_code 3 (some Jvm.ClassFile.FieldType.int) 2 := ⟨lw_V q1598 q1599 q1600 q102 q1601, rfl, ⟨by decide +kernel, by decide +kernel, by decide +kernel⟩⟩
theorem kX0_15 : KV RX0 15 RX1 yX1_setHeight prog_1_method_17_code 4 (some Jvm.ClassFile.FieldType.int) 2 := ⟨lw_V q1630 q1631 q1632 q102 q1633, rfl, ⟨by decide +kernel, by decide +kernel, by decide +kernel⟩⟩
theorem kX0_20 : KV RX0 20 RX1 yX1_setDrain prog_1_method_18_code 4 (some Jvm.ClassFile.FieldType.boolean) 2 := ⟨lw_V q1796 q1797 q1798 q102 q1799, rfl, ⟨by decide +kernel, by decide +kernel, by decide +kernel⟩⟩
theorem kX0_24 : KV RX0 24 RX1 yX1_setGate prog_1_method_19_code 5 (some Jvm.ClassFile.FieldType.int) 3 := ⟨lw_V q1820 q1821 q1822 q102 q1823, rfl, ⟨by decide +kernel, by decide +kernel, by decide +kernel⟩⟩
theorem kX0_28 : KV RX0 28 RX1 yX1_random prog_1_method_20_code 3 (some Jvm.ClassFile.FieldType.int) 2 := ⟨lw_V q1849 q1850 q1851 q102 q1852, rfl, ⟨by decide +kernel, by decide +kernel, by decide +kernel⟩⟩
theorem kX0_31 : KV RX0 31 RX1 yX1_cell prog_1_method_21_code 3 (some Jvm.ClassFile.FieldType.int) 2 := ⟨lw_V q1873 q1874 q1875 q102 q1876, rfl, ⟨by decide +kernel, by decide +kernel, by decide +kernel⟩⟩
theorem kX0_34 : KV RX0 34 RX1 yX1_between prog_1_method_22_code 4 (some Jvm.ClassFile.FieldType.int) 3 := ⟨lw_V q1880 q1881 q1882 q102 q1883, rfl, ⟨by decide +kernel, by decide +kernel, by decide +kernel⟩⟩
theorem kX0_38 : KV RX0 38 RX1 yX1_count prog_1_method_23_code 2 (some Jvm.ClassFile.FieldType.int) 1 := ⟨lw_V q1888 q1889 q1890 q102 q1891, rfl, ⟨by decide +kernel, by decide +kernel, by decide +kernel⟩⟩
theorem kX0_42 : KV RX0 42 RX1 yX1_pour prog_1_method_24_code 5 (some Jvm.ClassFile.FieldType.int) 2 := ⟨lw_V q1896 q1897 q1898 q102 q1899, rfl, ⟨by decide +kernel, by decide +kernel, by decide +kernel⟩⟩
theorem kX0_47 : KV RX0 47 RX1 yX1_rain prog_1_method_25_code 5 (some Jvm.ClassFile.FieldType.int) 1 := ⟨lw_V q1913 q1914 q1915 q102 q1916, rfl, ⟨by decide +kernel, by decide +kernel, by decide +kernel⟩⟩
theorem kX0_50 : KV RX0 50 RX1 yX1_evaporate prog_1_method_26_code 2 (some Jvm.ClassFile.FieldType.int) 1 := ⟨lw_V q1920 q1921 q1922 q102 q1923, rfl, ⟨by decide +kernel, by decide +kernel, by decide +kernel⟩⟩
theorem kX0_53 : KV RX0 53 RX1 yX1_take prog_1_method_27_code 4 (some Jvm.ClassFile.FieldType.int) 2 := ⟨lw_V q1943 q1944 q1945 q102 q1946, rfl, ⟨by decide +kernel, by decide +kernel, by decide +kernel⟩⟩
theorem kX0_56 : KV RX0 56 RX1 yX1_balance prog_1_method_28_code 2 (some Jvm.ClassFile.FieldType.long) 1 := ⟨lw_V q1956 q1957 q1958 q102 q1959, rfl, ⟨by decide +kernel, by decide +kernel, by decide +kernel⟩⟩
theorem kX0_60 : KV RX0 60 RX1 yX1_lake prog_1_method_29_code 4 (some Jvm.ClassFile.FieldType.int) 2 := ⟨lw_V q1963 q1964 q1965 q102 q1966, rfl, ⟨by decide +kernel, by decide +kernel, by decide +kernel⟩⟩
theorem kX0_63 : KV RX0 63 RX1 yX1_lakeCells prog_1_method_30_code 2 (some Jvm.ClassFile.FieldType.long) 1 := ⟨lw_V q1970 q1971 q1972 q102 q1973, rfl, ⟨by decide +kernel, by decide +kernel, by decide +kernel⟩⟩
theorem kX0_66 : KV RX0 66 RX1 yX1_level prog_1_method_31_code 4 (some Jvm.ClassFile.FieldType.int) 2 := ⟨lw_V q1977 q1978 q1979 q102 q1980, rfl, ⟨by decide +kernel, by decide +kernel, by decide +kernel⟩⟩
theorem kX0_69 : KV RX0 69 RX1 yX1_depth prog_1_method_33_code 3 (some Jvm.ClassFile.FieldType.double) 1 := ⟨lw_V q1984 q1985 q1986 q102 q1987, rfl, ⟨by decide +kernel, by decide +kernel, by decide +kernel⟩⟩
theorem kX0_73 : KV RX0 73 RX1 yX1_course prog_1_method_35_code 2 (some Jvm.ClassFile.FieldType.long) 1 := ⟨lw_V q1991 q1992 q1993 q102 q1994, rfl, ⟨by decide +kernel, by decide +kernel, by decide +kernel⟩⟩
theorem kX0_76 : KV RX0 76 RX1 yX1_amountFor prog_1_method_37_code 6 (some Jvm.ClassFile.FieldType.int) 2 := ⟨lw_V q2002 q2003 q2004 q102 q2005, rfl, ⟨by decide +kernel, by decide +kernel, by decide +kernel⟩⟩
theorem kX0_79 : KV RX0 79 RX1 yX1_withoutGate prog_1_method_40_code 4 (some Jvm.ClassFile.FieldType.int) 2 := ⟨lw_V q2014 q2015 q2016 q102 q2017, rfl, ⟨by decide +kernel, by decide +kernel, by decide +kernel⟩⟩
theorem kX0_82 : KV RX0 82 RX1 yX1_append prog_1_method_41_code 2 (some Jvm.ClassFile.FieldType.int) 1 := ⟨lw_V q2022 q2023 q2024 q102 q2025, rfl, ⟨by decide +kernel, by decide +kernel, by decide +kernel⟩⟩
theorem kX0_85 : KV RX0 85 RX1 yX1_undo prog_1_method_44_code 1 (some Jvm.ClassFile.FieldType.int) 0 := ⟨lw_V q2029 q2030 q2031 q102 q2032, rfl, ⟨by decide +kernel, by decide +kernel, by decide +kernel⟩⟩
theorem kX0_92 : KI RX0 92 yX5_init prog_13_method_1_code 1 0 := ⟨q2049, q132, q2047, q2048, rfl, ⟨by decide +kernel, by decide +kernel, by decide +kernel⟩⟩
theorem kX0_99 : KV RX0 99 RX5 yX5_thrown prog_13_method_2_code 1 (some Jvm.ClassFile.FieldType.int) 0 := ⟨lw_V q2178 q2179 q2180 q132 q2181, rfl, ⟨by decide +kernel, by decide +kernel, by decide +kernel⟩⟩
theorem kX0_98 : KV RX0 98 RX5 yX5_begin prog_13_method_46_code 3 (some Jvm.ClassFile.FieldType.int) 2 := ⟨lw_V q2182 q2183 q2184 q132 q2185, rfl, ⟨by decide +kernel, by decide +kernel, by decide +kernel⟩⟩
theorem kX0_104 : KV RX0 104 RX5 yX5_setHeight prog_13_method_47_code 4 (some Jvm.ClassFile.FieldType.int) 2 := ⟨lw_V q2198 q2199 q2200 q132 q2201, rfl, ⟨by decide +kernel, by decide +kernel, by decide +kernel⟩⟩
theorem kX0_108 : KV RX0 108 RX5 yX5_setDrain prog_13_method_48_code 4 (some Jvm.ClassFile.FieldType.boolean) 2 := ⟨lw_V q2243 q2244 q2245 q132 q2246, rfl, ⟨by decide +kernel, by decide +kernel, by decide +kernel⟩⟩
theorem kX0_112 : KV RX0 112 RX5 yX5_setGate prog_13_method_49_code 5 (some Jvm.ClassFile.FieldType.int) 3 := ⟨lw_V q2247 q2248 q2249 q132 q2250, rfl, ⟨by decide +kernel, by decide +kernel, by decide +kernel⟩⟩
theorem kX0_115 : KV RX0 115 RX5 yX5_random prog_13_method_50_code 6 (some Jvm.ClassFile.FieldType.int) 2 := ⟨lw_V q2259 q2260 q2261 q132 q2262, rfl, ⟨by decide +kernel, by decide +kernel, by decide +kernel⟩⟩
theorem kX0_118 : KV RX0 118 RX5 yX5_cell prog_13_method_52_code 3 (some Jvm.ClassFile.FieldType.int) 2 := ⟨lw_V q2268 q2269 q2270 q132 q2271, rfl, ⟨by decide +kernel, by decide +kernel, by decide +kernel⟩⟩
theorem kX0_122 : KV RX0 122 RX5 yX5_between prog_13_method_53_code 4 (some Jvm.ClassFile.FieldType.int) 3 := ⟨lw_V q2289 q2290 q2291 q132 q2292, rfl, ⟨by decide +kernel, by decide +kernel, by decide +kernel⟩⟩
theorem kX0_126 : KV RX0 126 RX5 yX5_count prog_13_method_56_code 2 (some Jvm.ClassFile.FieldType.int) 1 := ⟨lw_V q2293 q2294 q2295 q132 q2296, rfl, ⟨by decide +kernel, by decide +kernel, by decide +kernel⟩⟩
theorem kX0_129 : KV RX0 129 RX5 yX5_pour prog_13_method_57_code 5 (some Jvm.ClassFile.FieldType.int) 2 := ⟨lw_V q2313 q2314 q2315 q132 q2316, rfl, ⟨by decide +kernel, by decide +kernel, by decide +kernel⟩⟩
theorem kX0_132 : KV RX0 132 RX5 yX5_rain prog_13_method_58_code 5 (some Jvm.ClassFile.FieldType.int) 1 := ⟨lw_V q2323 q2324 q2325 q132 q2326, rfl, ⟨by decide +kernel, by decide +kernel, by decide +kernel⟩⟩
theorem kX0_135 : KV RX0 135 RX5 yX5_evaporate prog_13_method_60_code 5 (some Jvm.ClassFile.FieldType.int) 1 := ⟨lw_V q2328 q2329 q2330 q132 q2331, rfl, ⟨by decide +kernel, by decide +kernel, by decide +kernel⟩⟩
theorem kX0_138 : KV RX0 138 RX5 yX5_take prog_13_method_61_code 4 (some Jvm.ClassFile.FieldType.int) 2 := ⟨lw_V q2353 q2354 q2355 q132 q2356, rfl, ⟨by decide +kernel, by decide +kernel, by decide +kernel⟩⟩
theorem kX0_141 : KV RX0 141 RX5 yX5_balance prog_13_method_63_code 2 (some Jvm.ClassFile.FieldType.long) 1 := ⟨lw_V q2361 q2362 q2363 q132 q2364, rfl, ⟨by decide +kernel, by decide +kernel, by decide +kernel⟩⟩
theorem kX0_144 : KV RX0 144 RX5 yX5_lake prog_13_method_66_code 3 (some Jvm.ClassFile.FieldType.int) 2 := ⟨lw_V q2370 q2371 q2372 q132 q2373, rfl, ⟨by decide +kernel, by decide +kernel, by decide +kernel⟩⟩
theorem kX0_147 : KV RX0 147 RX5 yX5_lakeCells prog_13_method_67_code 2 (some Jvm.ClassFile.FieldType.long) 1 := ⟨lw_V q2386 q2387 q2388 q132 q2389, rfl, ⟨by decide +kernel, by decide +kernel, by decide +kernel⟩⟩
theorem kX0_150 : KV RX0 150 RX5 yX5_level prog_13_method_69_code 3 (some Jvm.ClassFile.FieldType.int) 2 := ⟨lw_V q2390 q2391 q2392 q132 q2393, rfl, ⟨by decide +kernel, by decide +kernel, by decide +kernel⟩⟩
theorem kX0_154 : KV RX0 154 RX5 yX5_depth prog_13_method_70_code 6 (some Jvm.ClassFile.FieldType.double) 1 := ⟨lw_V q2401 q2402 q2403 q132 q2404, rfl, ⟨by decide +kernel, by decide +kernel, by decide +kernel⟩⟩
theorem kX0_158 : KV RX0 158 RX5 yX5_deepest prog_13_method_71_code 9 (some Jvm.ClassFile.FieldType.int) 0 := ⟨lw_V q2405 q2406 q2407 q132 q2408, rfl, ⟨by decide +kernel, by decide +kernel, by decide +kernel⟩⟩
theorem kX0_161 : KV RX0 161 RX5 yX5_course prog_13_method_72_code 7 (some Jvm.ClassFile.FieldType.long) 1 := ⟨lw_V q2409 q2410 q2411 q132 q2412, rfl, ⟨by decide +kernel, by decide +kernel, by decide +kernel⟩⟩
theorem kX0_164 : KV RX0 164 RX5 yX5_amountFor prog_13_method_74_code 7 (some Jvm.ClassFile.FieldType.int) 2 := ⟨lw_V q2413 q2414 q2415 q132 q2416, rfl, ⟨by decide +kernel, by decide +kernel, by decide +kernel⟩⟩
theorem kX0_168 : KV RX0 168 RX5 yX5_rainToJoin prog_13_method_76_code 3 (some Jvm.ClassFile.FieldType.int) 0 := ⟨lw_V q2430 q2431 q2432 q132 q2433, rfl, ⟨by decide +kernel, by decide +kernel, by decide +kernel⟩⟩
theorem kX0_171 : KV RX0 171 RX5 yX5_withoutGate prog_13_method_77_code 5 (some Jvm.ClassFile.FieldType.int) 2 := ⟨lw_V q2438 q2439 q2440 q132 q2441, rfl, ⟨by decide +kernel, by decide +kernel, by decide +kernel⟩⟩
theorem kX0_174 : KV RX0 174 RX5 yX5_append prog_13_method_78_code 2 (some Jvm.ClassFile.FieldType.int) 1 := ⟨lw_V q2442 q2443 q2444 q132 q2445, rfl, ⟨by decide +kernel, by decide +kernel, by decide +kernel⟩⟩
theorem kX0_178 : KV RX0 178 RX5 yX5_clearText prog_13_method_79_code 2 (some Jvm.ClassFile.FieldType.int) 0 := ⟨lw_V q2447 q2448 q2449 q132 q2450, rfl, ⟨by decide +kernel, by decide +kernel, by decide +kernel⟩⟩
theorem kX0_182 : KV RX0 182 RX5 yX5_parse prog_13_method_89_code 5 (some Jvm.ClassFile.FieldType.int) 0 := ⟨lw_V q2451 q2452 q2453 q132 q2454, rfl, ⟨by decide +kernel, by decide +kernel, by decide +kernel⟩⟩
theorem kX0_186 : KV RX0 186 RX5 yX5_undo prog_13_method_90_code 2 (some Jvm.ClassFile.FieldType.int) 0 := ⟨lw_V q2495 q2496 q2497 q132 q2498, rfl, ⟨by decide +kernel, by decide +kernel, by decide +kernel⟩⟩
theorem kX0_191 : KV RX0 191 RX5 yX5_digest prog_13_method_92_code 6 (some Jvm.ClassFile.FieldType.long) 0 := ⟨lw_V q2499 q2500 q2501 q132 q2502, rfl, ⟨by decide +kernel, by decide +kernel, by decide +kernel⟩⟩
theorem kJ4_1 : KI RJ4 1 yJ3_init prog_44_method_1_code 1 0 := ⟨q230, q108, q228, q229, rfl, ⟨by decide +kernel, by decide +kernel, by decide +kernel⟩⟩
theorem kJ4_90 : KV RJ4 90 RJ4 yJ4_checkElementIndex prog_54_method_29_code 2 none 1 := ⟨lw_V q630 q632 qs12 q109 q633, rfl, ⟨by decide +kernel, by decide +kernel, by decide +kernel⟩⟩
theorem kJ4_115 : KV RJ4 115 RJ4 yJ4_isElementIndex prog_54_method_26_code 2 (some Jvm.ClassFile.FieldType.boolean) 1 := ⟨lw_V q634 q636 qs13 q109 q637, rfl, ⟨by decide +kernel, by decide +kernel, by decide +kernel⟩⟩
theorem kJ4_121 : KV RJ4 121 RJ4 yJ4_outOfBoundsMsg prog_54_method_28_code 2 (some (Jvm.ClassFile.FieldType.object "java/lang/String")) 1 := ⟨lw_V q647 q649 qs14 q109 q650, rfl, ⟨by decide +kernel, by decide +kernel, by decide +kernel⟩⟩
theorem kJ4_86 : KV RJ4 86 RJ4 yJ4_node prog_54_method_31_code 4 (some (Jvm.ClassFile.FieldType.object "java/util/LinkedList$Node")) 1 := ⟨lw_V q908 q909 q910 q109 q911, rfl, ⟨by decide +kernel, by decide +kernel, by decide +kernel⟩⟩
theorem kJ4_76 : KV RJ4 76 RJ4 yJ4_checkPositionIndex prog_54_method_30_code 2 none 1 := ⟨lw_V q917 q919 qs15 q109 q920, rfl, ⟨by decide +kernel, by decide +kernel, by decide +kernel⟩⟩
theorem kJ4_128 : KV RJ4 128 RJ4 yJ4_isPositionIndex prog_54_method_27_code 2 (some Jvm.ClassFile.FieldType.boolean) 1 := ⟨lw_V q921 q923 qs16 q109 q924, rfl, ⟨by decide +kernel, by decide +kernel, by decide +kernel⟩⟩
theorem kJ4_57 : KV RJ4 57 RJ4 yJ4_linkLast prog_54_method_4_code 4 none 1 := ⟨lw_V q925 q926 q927 q109 q928, rfl, ⟨by decide +kernel, by decide +kernel, by decide +kernel⟩⟩
theorem kJ4_24 : KI RJ4 24 yJ23_init prog_56_method_1_code 4 3 := ⟨q933, q131, q931, q932, rfl, ⟨by decide +kernel, by decide +kernel, by decide +kernel⟩⟩
theorem kJ4_93 : KV RJ4 93 RJ4 yJ4_linkBefore prog_54_method_5_code 5 none 2 := ⟨lw_V q950 q951 q952 q109 q953, rfl, ⟨by decide +kernel, by decide +kernel, by decide +kernel⟩⟩
theorem kJ4_152 : KI RJ4 152 yJ29_init prog_55_method_1_code 3 2 := ⟨q1147, q140, q1145, q1146, rfl, ⟨by decide +kernel, by decide +kernel, by decide +kernel⟩⟩
theorem kJ4_64 : KV RJ4 64 RJ4 yJ4_unlink prog_54_method_8_code 5 (some (Jvm.ClassFile.FieldType.object "java/lang/Object")) 1 := ⟨lw_V q1349 q1350 q1351 q109 q1352, rfl, ⟨by decide +kernel, by decide +kernel, by decide +kernel⟩⟩
theorem kX4_3 : KI RX4 3 yX4_init_2 prog_7_method_2_code 6 4 := ⟨q572, q121, q570, q571, rfl, ⟨by decide +kernel, by decide +kernel, by decide +kernel⟩⟩
theorem kX4_9 : KI RX4 9 yJ33_init object_method_1_code 1 0 := ⟨q156, q2521, q573, q155, rfl, ⟨by decide +kernel, by decide +kernel, by decide +kernel⟩⟩
theorem kX4_38 : KV RX4 38 RX4 yX4_findPass prog_7_method_6_code 5 none 1 := ⟨lw_V q574 q576 qs10 q121 q577, rfl, ⟨by decide +kernel, by decide +kernel, by decide +kernel⟩⟩
theorem kX4_52 : KV RX4 52 RX2 yX2_size prog_8_method_3_code 1 (some Jvm.ClassFile.FieldType.int) 0 := ⟨lw_V q578 q294 q295 q103 q296, rfl, ⟨by decide +kernel, by decide +kernel, by decide +kernel⟩⟩
theorem kX4_62 : KV RX4 62 RX2 yX2_areNeighbors prog_8_method_4_code 4 (some Jvm.ClassFile.FieldType.boolean) 2 := ⟨lw_V q580 q507 q508 q103 q509, rfl, ⟨by decide +kernel, by decide +kernel, by decide +kernel⟩⟩
theorem kX4_66 : KV RX4 66 RX2 yX2_threshold prog_8_method_8_code 3 (some Jvm.ClassFile.FieldType.int) 2 := ⟨lw_V q581 q514 q515 q103 q516, rfl, ⟨by decide +kernel, by decide +kernel, by decide +kernel⟩⟩
theorem kX4_73 : KS RX4 73 yJ12_max prog_29_method_65_code 2 (some Jvm.ClassFile.FieldType.int) 2 := ⟨lw_S q582 q518 q118 q519, ⟨by decide +kernel, by decide +kernel, by decide +kernel⟩⟩
theorem kX4_94 : KV RX4 94 RX4 yX4_levelPart prog_7_method_13_code 7 (some Jvm.ClassFile.FieldType.int) 2 := ⟨lw_V q998 q999 q1000 q121 q1001, rfl, ⟨by decide +kernel, by decide +kernel, by decide +kernel⟩⟩
theorem kX4_81 : KV RX4 81 RX4 yX4_heightAbove prog_7_method_10_code 6 (some Jvm.ClassFile.FieldType.int) 2 := ⟨lw_V q1002 q1004 qs19 q121 q1005, rfl, ⟨by decide +kernel, by decide +kernel, by decide +kernel⟩⟩
theorem kX4_85 : KV RX4 85 RX4 yX4_sumUpTo prog_7_method_12_code 5 (some Jvm.ClassFile.FieldType.int) 2 := ⟨lw_V q1006 q1008 qs20 q121 q1009, rfl, ⟨by decide +kernel, by decide +kernel, by decide +kernel⟩⟩
theorem kX4_88 : KV RX4 88 RX4 yX4_countUpTo prog_7_method_11_code 5 (some Jvm.ClassFile.FieldType.int) 2 := ⟨lw_V q1010 q1012 qs21 q121 q1013, rfl, ⟨by decide +kernel, by decide +kernel, by decide +kernel⟩⟩
theorem kX4_45 : KI RX4 45 yX4_init_3 prog_7_method_3_code 2 1 := ⟨q1047, q121, q1045, q1046, rfl, ⟨by decide +kernel, by decide +kernel, by decide +kernel⟩⟩
theorem kX4_78 : KS RX4 78 yJ12_min prog_29_method_69_code 2 (some Jvm.ClassFile.FieldType.int) 2 := ⟨lw_S q1060 q476 q118 q477, ⟨by decide +kernel, by decide +kernel, by decide +kernel⟩⟩
theorem kJ25_135 : KV RJ25 135 RJ25 yJ25_rangeCheckForAdd prog_46_method_45_code 2 none 1 := ⟨lw_V q1095 q1097 qs25 q135 q1099, rfl, ⟨by decide +kernel, by decide +kernel, by decide +kernel⟩⟩
theorem kJ25_198 : KV RJ25 198 RJ25 yJ25_outOfBoundsMsg prog_46_method_46_code 2 (some (Jvm.ClassFile.FieldType.object "java/lang/String")) 1 := ⟨lw_V q1101 q1103 qs26 q135 q1104, rfl, ⟨by decide +kernel, by decide +kernel, by decide +kernel⟩⟩
theorem kJ25_123 : KV RJ25 123 RJ25 yJ25_elementData prog_46_method_18_code 2 (some (Jvm.ClassFile.FieldType.object "java/lang/Object")) 1 := ⟨lw_V q1225 q1226 q1227 q135 q1228, rfl, ⟨by decide +kernel, by decide +kernel, by decide +kernel⟩⟩
theorem kJ25_144 : KV RJ25 144 RJ25 yJ25_fastRemove prog_46_method_39_code 4 none 2 := ⟨lw_V q1341 q1343 qs27 q135 q1344, rfl, ⟨by decide +kernel, by decide +kernel, by decide +kernel⟩⟩
theorem kJ25_1 : KI RJ25 1 yJ2_init prog_41_method_1_code 1 0 := ⟨q233, q107, q1667, q232, rfl, ⟨by decide +kernel, by decide +kernel, by decide +kernel⟩⟩
theorem kJ25_66 : KS RJ25 66 yJ0_copyOf prog_49_method_119_code 2 (some (Jvm.ClassFile.FieldType.array (Jvm.ClassFile.FieldType.object "java/lang/Object"))) 2 := ⟨lw_S q1692 q436 q104 q437, ⟨by decide +kernel, by decide +kernel, by decide +kernel⟩⟩
theorem kJ25_57 : KS RJ25 57 yJ0_copyOf_2 prog_49_method_120_code 4 (some (Jvm.ClassFile.FieldType.array (Jvm.ClassFile.FieldType.object "java/lang/Object"))) 3 := ⟨lw_S q1710 q471 q104 q472, ⟨by decide +kernel, by decide +kernel, by decide +kernel⟩⟩
theorem kJ25_269 : KI RJ25 269 yJ27_init prog_47_method_1_code 2 1 := ⟨q1120, q138, q1783, q1119, rfl, ⟨by decide +kernel, by decide +kernel, by decide +kernel⟩⟩
theorem kX11_1 : KI RX11 1 yJ9_init_4 prog_21_method_5_code 5 4 := ⟨q1442, q115, q1440, q1441, rfl, ⟨by decide +kernel, by decide +kernel, by decide +kernel⟩⟩
theorem kX9_20 : KV RX9 20 RX2 yX2_size prog_8_method_3_code 1 (some Jvm.ClassFile.FieldType.int) 0 := ⟨lw_V q1754 q294 q295 q103 q296, rfl, ⟨by decide +kernel, by decide +kernel, by decide +kernel⟩⟩
theorem kX9_14 : KI RX9 14 yJ33_init object_method_1_code 1 0 := ⟨q156, q2521, q1859, q155, rfl, ⟨by decide +kernel, by decide +kernel, by decide +kernel⟩⟩
theorem kX5_1 : KI RX5 1 yJ33_init object_method_1_code 1 0 := ⟨q156, q2521, q2050, q155, rfl, ⟨by decide +kernel, by decide +kernel, by decide +kernel⟩⟩
theorem kX5_50 : KV RX5 50 RX5 yX5_begins prog_13_method_45_code 4 none 2 := ⟨lw_V q2051 q2053 qs44 q132 q2054, rfl, ⟨by decide +kernel, by decide +kernel, by decide +kernel⟩⟩
theorem kX5_174 : KV RX5 174 RX5 yX5_finds prog_13_method_22_code 5 none 0 := ⟨lw_V q2056 q2058 qs45 q132 q2059, rfl, ⟨by decide +kernel, by decide +kernel, by decide +kernel⟩⟩
theorem kX5_61 : KV RX5 61 RX5 yX5_many prog_13_method_8_code 1 (some Jvm.ClassFile.FieldType.int) 0 := ⟨lw_V q2060 q2062 qs46 q132 q2063, rfl, ⟨by decide +kernel, by decide +kernel, by decide +kernel⟩⟩
theorem kX5_106 : KV RX5 106 RX5 yX5_endOf prog_13_method_20_code 5 (some Jvm.ClassFile.FieldType.long) 1 := ⟨lw_V q2064 q2066 qs47 q132 q2067, rfl, ⟨by decide +kernel, by decide +kernel, by decide +kernel⟩⟩
theorem kX5_98 : KV RX5 98 RX5 yX5_plain prog_13_method_18_code 8 (some Jvm.ClassFile.FieldType.long) 1 := ⟨lw_V q2068 q2070 qs48 q132 q2071, rfl, ⟨by decide +kernel, by decide +kernel, by decide +kernel⟩⟩
theorem kX5_91 : KS RX5 91 yX5_has prog_13_method_17_code 3 (some Jvm.ClassFile.FieldType.boolean) 2 := ⟨lw_S q2072 q2073 q132 q2074, ⟨by decide +kernel, by decide +kernel, by decide +kernel⟩⟩
theorem kX5_69 : KV RX5 69 RX5 yX5_neighbor prog_13_method_11_code 4 (some Jvm.ClassFile.FieldType.int) 2 := ⟨lw_V q2075 q2077 qs49 q132 q2078, rfl, ⟨by decide +kernel, by decide +kernel, by decide +kernel⟩⟩
theorem kX5_87 : KV RX5 87 RX5 yX5_height prog_13_method_10_code 2 (some Jvm.ClassFile.FieldType.int) 1 := ⟨lw_V q2079 q2081 qs50 q132 q2082, rfl, ⟨by decide +kernel, by decide +kernel, by decide +kernel⟩⟩
theorem kX5_95 : KV RX5 95 RX5 yX5_runs prog_13_method_16_code 3 (some Jvm.ClassFile.FieldType.boolean) 2 := ⟨lw_V q2083 q2085 qs51 q132 q2086, rfl, ⟨by decide +kernel, by decide +kernel, by decide +kernel⟩⟩
theorem kX5_84 : KV RX5 84 RX5 yX5_threshold prog_13_method_15_code 7 (some Jvm.ClassFile.FieldType.int) 2 := ⟨lw_V q2087 q2089 qs52 q132 q2090, rfl, ⟨by decide +kernel, by decide +kernel, by decide +kernel⟩⟩
theorem kX5_81 : KV RX5 81 RX5 yX5_gateAt prog_13_method_14_code 5 (some Jvm.ClassFile.FieldType.int) 2 := ⟨lw_V q2091 q2093 qs53 q132 q2094, rfl, ⟨by decide +kernel, by decide +kernel, by decide +kernel⟩⟩
theorem kX5_102 : KV RX5 102 RX5 yX5_way prog_13_method_19_code 7 (some Jvm.ClassFile.FieldType.int) 1 := ⟨lw_V q2095 q2097 qs54 q132 q2098, rfl, ⟨by decide +kernel, by decide +kernel, by decide +kernel⟩⟩
theorem kX5_111 : KS RX5 111 yX5_lowest prog_13_method_21_code 3 (some Jvm.ClassFile.FieldType.int) 1 := ⟨lw_S q2099 q2100 q132 q2101, ⟨by decide +kernel, by decide +kernel, by decide +kernel⟩⟩
theorem kX5_65 : KS RX5 65 yX5_in prog_13_method_3_code 6 (some Jvm.ClassFile.FieldType.boolean) 3 := ⟨lw_S q2187 q2188 q132 q2189, ⟨by decide +kernel, by decide +kernel, by decide +kernel⟩⟩
theorem kX5_183 : KV RX5 183 RX5 yX5_goes prog_13_method_4_code 4 (some Jvm.ClassFile.FieldType.boolean) 3 := ⟨lw_V q2190 q2192 qs55 q132 q2193, rfl, ⟨by decide +kernel, by decide +kernel, by decide +kernel⟩⟩
theorem kX5_187 : KV RX5 187 RX5 yX5_save prog_13_method_5_code 2 none 0 := ⟨lw_V q2194 q2196 qs56 q132 q2197, rfl, ⟨by decide +kernel, by decide +kernel, by decide +kernel⟩⟩
theorem kX5_73 : KV RX5 73 RX5 yX5_isCell prog_13_method_9_code 2 (some Jvm.ClassFile.FieldType.boolean) 1 := ⟨lw_V q2202 q2204 qs57 q132 q2205, rfl, ⟨by decide +kernel, by decide +kernel, by decide +kernel⟩⟩
theorem kX5_192 : KV RX5 192 RX5 yX5_remembers prog_13_method_43_code 5 none 0 := ⟨lw_V q2207 q2209 qs58 q132 q2210, rfl, ⟨by decide +kernel, by decide +kernel, by decide +kernel⟩⟩
theorem kX5_152 : KV RX5 152 RX5 yX5_orders prog_13_method_33_code 3 none 0 := ⟨lw_V q2211 q2213 qs59 q132 q2214, rfl, ⟨by decide +kernel, by decide +kernel, by decide +kernel⟩⟩
theorem kX5_133 : KV RX5 133 RX5 yX5_lakeOf prog_13_method_28_code 4 (some Jvm.ClassFile.FieldType.int) 1 := ⟨lw_V q2215 q2217 qs60 q132 q2218, rfl, ⟨by decide +kernel, by decide +kernel, by decide +kernel⟩⟩
theorem kX5_195 : KV RX5 195 RX5 yX5_changes prog_13_method_44_code 2 none 0 := ⟨lw_V q2219 q2221 qs61 q132 q2222, rfl, ⟨by decide +kernel, by decide +kernel, by decide +kernel⟩⟩
theorem kX5_177 : KV RX5 177 RX5 yX5_pours prog_13_method_30_code 15 none 2 := ⟨lw_V q2223 q2225 qs62 q132 q2226, rfl, ⟨by decide +kernel, by decide +kernel, by decide +kernel⟩⟩
theorem kX5_127 : KV RX5 127 RX5 yX5_capacity prog_13_method_24_code 5 (some Jvm.ClassFile.FieldType.long) 1 := ⟨lw_V q2227 q2229 qs63 q132 q2230, rfl, ⟨by decide +kernel, by decide +kernel, by decide +kernel⟩⟩
theorem kX5_123 : KV RX5 123 RX5 yX5_findsPass prog_13_method_23_code 7 none 1 := ⟨lw_V q2231 q2233 qs64 q132 q2234, rfl, ⟨by decide +kernel, by decide +kernel, by decide +kernel⟩⟩
theorem kX5_136 : KV RX5 136 RX5 yX5_isFull prog_13_method_25_code 2 (some Jvm.ClassFile.FieldType.boolean) 1 := ⟨lw_V q2235 q2237 qs65 q132 q2238, rfl, ⟨by decide +kernel, by decide +kernel, by decide +kernel⟩⟩
theorem kX5_139 : KV RX5 139 RX5 yX5_join prog_13_method_29_code 4 (some Jvm.ClassFile.FieldType.int) 2 := ⟨lw_V q2239 q2241 qs66 q132 q2242, rfl, ⟨by decide +kernel, by decide +kernel, by decide +kernel⟩⟩
theorem kX5_198 : KV RX5 198 RX5 yX5_isPair prog_13_method_13_code 3 (some Jvm.ClassFile.FieldType.boolean) 2 := ⟨lw_V q2251 q2253 qs67 q132 q2254, rfl, ⟨by decide +kernel, by decide +kernel, by decide +kernel⟩⟩
theorem kX5_77 : KV RX5 77 RX5 yX5_areNeighbors prog_13_method_12_code 5 (some Jvm.ClassFile.FieldType.boolean) 2 := ⟨lw_V q2255 q2257 qs68 q132 q2258, rfl, ⟨by decide +kernel, by decide +kernel, by decide +kernel⟩⟩
theorem kX5_216 : KV RX5 216 RX5 yX5_cellValue prog_13_method_51_code 4 (some Jvm.ClassFile.FieldType.int) 2 := ⟨lw_V q2273 q2275 qs69 q132 q2276, rfl, ⟨by decide +kernel, by decide +kernel, by decide +kernel⟩⟩
theorem kX5_211 : KV RX5 211 RX5 yX5_numberOf prog_13_method_34_code 3 (some Jvm.ClassFile.FieldType.int) 1 := ⟨lw_V q2277 q2279 qs70 q132 q2280, rfl, ⟨by decide +kernel, by decide +kernel, by decide +kernel⟩⟩
theorem kX5_165 : KV RX5 165 RX5 yX5_isWet prog_13_method_38_code 3 (some Jvm.ClassFile.FieldType.boolean) 1 := ⟨lw_V q2281 q2283 qs71 q132 q2284, rfl, ⟨by decide +kernel, by decide +kernel, by decide +kernel⟩⟩
theorem kX5_162 : KV RX5 162 RX5 yX5_levels prog_13_method_37_code 11 none 1 := ⟨lw_V q2285 q2287 qs72 q132 q2288, rfl, ⟨by decide +kernel, by decide +kernel, by decide +kernel⟩⟩
theorem kX5_225 : KV RX5 225 RX5 yX5_countOf prog_13_method_55_code 4 (some Jvm.ClassFile.FieldType.int) 1 := ⟨lw_V q2297 q2299 qs73 q132 q2300, rfl, ⟨by decide +kernel, by decide +kernel, by decide +kernel⟩⟩
theorem kX5_219 : KV RX5 219 RX5 yX5_wet prog_13_method_40_code 1 (some Jvm.ClassFile.FieldType.int) 0 := ⟨lw_V q2301 q2303 qs74 q132 q2304, rfl, ⟨by decide +kernel, by decide +kernel, by decide +kernel⟩⟩
theorem kX5_168 : KV RX5 168 RX5 yX5_wetOf prog_13_method_39_code 5 (some Jvm.ClassFile.FieldType.int) 1 := ⟨lw_V q2305 q2307 qs75 q132 q2308, rfl, ⟨by decide +kernel, by decide +kernel, by decide +kernel⟩⟩
theorem kX5_222 : KV RX5 222 RX5 yX5_seaCells prog_13_method_54_code 3 (some Jvm.ClassFile.FieldType.int) 0 := ⟨lw_V q2309 q2311 qs76 q132 q2312, rfl, ⟨by decide +kernel, by decide +kernel, by decide +kernel⟩⟩
theorem kX5_230 : KV RX5 230 RX5 yX5_water prog_13_method_36_code 4 (some Jvm.ClassFile.FieldType.long) 0 := ⟨lw_V q2318 q2320 qs77 q132 q2321, rfl, ⟨by decide +kernel, by decide +kernel, by decide +kernel⟩⟩
theorem kX5_243 : KV RX5 243 RX5 yX5_evaporates prog_13_method_59_code 7 none 0 := ⟨lw_V q2333 q2335 qs78 q132 q2336, rfl, ⟨by decide +kernel, by decide +kernel, by decide +kernel⟩⟩
theorem kX5_238 : KV RX5 238 RX5 yX5_takes prog_13_method_31_code 17 none 2 := ⟨lw_V q2337 q2339 qs79 q132 q2340, rfl, ⟨by decide +kernel, by decide +kernel, by decide +kernel⟩⟩
theorem kX5_142 : KV RX5 142 RX5 yX5_leastVolume prog_13_method_27_code 2 (some Jvm.ClassFile.FieldType.long) 1 := ⟨lw_V q2341 q2343 qs80 q132 q2344, rfl, ⟨by decide +kernel, by decide +kernel, by decide +kernel⟩⟩
theorem kX5_130 : KV RX5 130 RX5 yX5_isJoined prog_13_method_26_code 2 (some Jvm.ClassFile.FieldType.boolean) 1 := ⟨lw_V q2345 q2347 qs81 q132 q2348, rfl, ⟨by decide +kernel, by decide +kernel, by decide +kernel⟩⟩
theorem kX5_145 : KV RX5 145 RX5 yX5_parts prog_13_method_32_code 4 none 3 := ⟨lw_V q2349 q2351 qs82 q132 q2352, rfl, ⟨by decide +kernel, by decide +kernel, by decide +kernel⟩⟩
theorem kX5_246 : KV RX5 246 RX5 yX5_isLake prog_13_method_35_code 2 (some Jvm.ClassFile.FieldType.boolean) 1 := ⟨lw_V q2357 q2359 qs83 q132 q2360, rfl, ⟨by decide +kernel, by decide +kernel, by decide +kernel⟩⟩
theorem kX5_251 : KV RX5 251 RX5 yX5_balanceOf prog_13_method_62_code 2 (some Jvm.ClassFile.FieldType.long) 1 := ⟨lw_V q2366 q2368 qs84 q132 q2369, rfl, ⟨by decide +kernel, by decide +kernel, by decide +kernel⟩⟩
theorem kX5_262 : KV RX5 262 RX5 yX5_lakeValue prog_13_method_65_code 6 (some Jvm.ClassFile.FieldType.int) 2 := ⟨lw_V q2375 q2377 qs85 q132 q2378, rfl, ⟨by decide +kernel, by decide +kernel, by decide +kernel⟩⟩
theorem kX5_254 : KS RX5 254 yX5_bits prog_13_method_42_code 5 (some Jvm.ClassFile.FieldType.int) 1 := ⟨lw_S q2379 q2380 q132 q2381, ⟨by decide +kernel, by decide +kernel, by decide +kernel⟩⟩
theorem kX5_257 : KV RX5 257 RX5 yX5_basinsOf prog_13_method_64_code 7 (some Jvm.ClassFile.FieldType.int) 1 := ⟨lw_V q2382 q2384 qs86 q132 q2385, rfl, ⟨by decide +kernel, by decide +kernel, by decide +kernel⟩⟩
theorem kX5_269 : KV RX5 269 RX5 yX5_levelPart prog_13_method_68_code 5 (some Jvm.ClassFile.FieldType.int) 2 := ⟨lw_V q2394 q2396 qs87 q132 q2397, rfl, ⟨by decide +kernel, by decide +kernel, by decide +kernel⟩⟩
theorem kX5_265 : KS RX5 265 yX5_divisor prog_13_method_41_code 10 (some Jvm.ClassFile.FieldType.long) 2 := ⟨lw_S q2398 q2399 q132 q2400, ⟨by decide +kernel, by decide +kernel, by decide +kernel⟩⟩
theorem kX5_279 : KV RX5 279 RX5 yX5_wets prog_13_method_73_code 5 (some Jvm.ClassFile.FieldType.boolean) 3 := ⟨lw_V q2418 q2420 qs88 q132 q2421, rfl, ⟨by decide +kernel, by decide +kernel, by decide +kernel⟩⟩
theorem kX5_272 : KV RX5 272 RX5 yX5_lays prog_13_method_6_code 2 none 0 := ⟨lw_V q2422 q2424 qs89 q132 q2425, rfl, ⟨by decide +kernel, by decide +kernel, by decide +kernel⟩⟩
theorem kX5_275 : KV RX5 275 RX5 yX5_takesBack prog_13_method_7_code 2 none 0 := ⟨lw_V q2426 q2428 qs90 q132 q2429, rfl, ⟨by decide +kernel, by decide +kernel, by decide +kernel⟩⟩
theorem kX5_283 : KV RX5 283 RX5 yX5_lakesAfter prog_13_method_75_code 3 (some Jvm.ClassFile.FieldType.int) 1 := ⟨lw_V q2434 q2436 qs91 q132 q2437, rfl, ⟨by decide +kernel, by decide +kernel, by decide +kernel⟩⟩
theorem kX5_330 : KV RX5 330 RX5 yX5_reads prog_13_method_88_code 3 (some Jvm.ClassFile.FieldType.boolean) 0 := ⟨lw_V q2455 q2457 qs92 q132 q2458, rfl, ⟨by decide +kernel, by decide +kernel, by decide +kernel⟩⟩
theorem kX5_318 : KV RX5 318 RX5 yX5_readsSize prog_13_method_82_code 2 (some Jvm.ClassFile.FieldType.boolean) 0 := ⟨lw_V q2459 q2461 qs93 q132 q2462, rfl, ⟨by decide +kernel, by decide +kernel, by decide +kernel⟩⟩
theorem kX5_315 : KV RX5 315 RX5 yX5_passes prog_13_method_81_code 3 (some Jvm.ClassFile.FieldType.boolean) 1 := ⟨lw_V q2465 q2467 qs94 q132 q2468, rfl, ⟨by decide +kernel, by decide +kernel, by decide +kernel⟩⟩
theorem kX5_321 : KV RX5 321 RX5 yX5_readsHeights prog_13_method_87_code 2 (some Jvm.ClassFile.FieldType.boolean) 0 := ⟨lw_V q2469 q2471 qs95 q132 q2472, rfl, ⟨by decide +kernel, by decide +kernel, by decide +kernel⟩⟩
theorem kX5_309 : KV RX5 309 RX5 yX5_readsNumber prog_13_method_83_code 2 (some Jvm.ClassFile.FieldType.boolean) 0 := ⟨lw_V q2473 q2475 qs96 q132 q2476, rfl, ⟨by decide +kernel, by decide +kernel, by decide +kernel⟩⟩
theorem kX5_305 : KV RX5 305 RX5 yX5_isFigure prog_13_method_80_code 1 (some Jvm.ClassFile.FieldType.boolean) 0 := ⟨lw_V q2477 q2479 qs97 q132 q2480, rfl, ⟨by decide +kernel, by decide +kernel, by decide +kernel⟩⟩
theorem kX5_324 : KV RX5 324 RX5 yX5_readsDrain prog_13_method_86_code 2 (some Jvm.ClassFile.FieldType.boolean) 0 := ⟨lw_V q2483 q2485 qs98 q132 q2486, rfl, ⟨by decide +kernel, by decide +kernel, by decide +kernel⟩⟩
theorem kX5_312 : KV RX5 312 RX5 yX5_readsCell prog_13_method_84_code 4 (some Jvm.ClassFile.FieldType.boolean) 1 := ⟨lw_V q2487 q2489 qs99 q132 q2490, rfl, ⟨by decide +kernel, by decide +kernel, by decide +kernel⟩⟩
theorem kX5_327 : KV RX5 327 RX5 yX5_readsGate prog_13_method_85_code 3 (some Jvm.ClassFile.FieldType.boolean) 0 := ⟨lw_V q2491 q2493 qs100 q132 q2494, rfl, ⟨by decide +kernel, by decide +kernel, by decide +kernel⟩⟩
theorem kX5_337 : KS RX5 337 yX5_sums prog_13_method_91_code 4 (some Jvm.ClassFile.FieldType.long) 2 := ⟨lw_S q2504 q2505 q132 q2506, ⟨by decide +kernel, by decide +kernel, by decide +kernel⟩⟩
theorem kX6_14 : KI RX6 14 yJ33_init object_method_1_code 1 0 := ⟨q156, q2521, q1649, q155, rfl, ⟨by decide +kernel, by decide +kernel, by decide +kernel⟩⟩
theorem kJ5_42 : KI RJ5 42 yJ1_init prog_40_method_1_code 1 0 := ⟨q236, q106, q313, q235, rfl, ⟨by decide +kernel, by decide +kernel, by decide +kernel⟩⟩
theorem kJ5_74 : KS RJ5 74 yJ5_inc prog_45_method_6_code 2 (some Jvm.ClassFile.FieldType.int) 2 := ⟨lw_S q350 q351 q110 q352, ⟨by decide +kernel, by decide +kernel, by decide +kernel⟩⟩
theorem kJ5_71 : KV RJ5 71 RJ5 yJ5_grow prog_45_method_1_code 9 none 1 := ⟨lw_V q353 q355 qs2 q110 q356, rfl, ⟨by decide +kernel, by decide +kernel, by decide +kernel⟩⟩
theorem kJ5_10 : KV RJ5 10 RJ5 yJ5_newCapacity prog_45_method_2_code 5 (some Jvm.ClassFile.FieldType.int) 2 := ⟨lw_V q358 q360 qs3 q110 q361, rfl, ⟨by decide +kernel, by decide +kernel, by decide +kernel⟩⟩
theorem kJ5_14 : KS RJ5 14 yJ0_copyOf prog_49_method_119_code 2 (some (Jvm.ClassFile.FieldType.array (Jvm.ClassFile.FieldType.object "java/lang/Object"))) 2 := ⟨lw_S q435 q436 q104 q437, ⟨by decide +kernel, by decide +kernel, by decide +kernel⟩⟩
theorem kJ5_93 : KV RJ5 93 RJ5 yJ5_pollFirst prog_45_method_20_code 4 (some (Jvm.ClassFile.FieldType.object "java/lang/Object")) 0 := ⟨lw_V q490 q491 q492 q110 q493, rfl, ⟨by decide +kernel, by decide +kernel, by decide +kernel⟩⟩
theorem kJ5_103 : KS RJ5 103 yJ5_elementAt prog_45_method_10_code 2 (some (Jvm.ClassFile.FieldType.object "java/lang/Object")) 2 := ⟨lw_S q494 q495 q110 q496, ⟨by decide +kernel, by decide +kernel, by decide +kernel⟩⟩
theorem kJ5_127 : KS RJ5 127 yJ5_sub prog_45_method_9_code 3 (some Jvm.ClassFile.FieldType.int) 3 := ⟨lw_S q1484 q1485 q110 q1486, ⟨by decide +kernel, by decide +kernel, by decide +kernel⟩⟩
theorem kJ5_189 : KV RJ5 189 RJ5 yJ5_toArray_2 prog_45_method_56_code 7 (some (Jvm.ClassFile.FieldType.array (Jvm.ClassFile.FieldType.object "java/lang/Object"))) 1 := ⟨lw_V q1679 q1681 qs39 q110 q1682, rfl, ⟨by decide +kernel, by decide +kernel, by decide +kernel⟩⟩
theorem kJ5_193 : KS RJ5 193 yJ0_copyOfRange_2 prog_49_method_130_code 6 (some (Jvm.ClassFile.FieldType.array (Jvm.ClassFile.FieldType.object "java/lang/Object"))) 4 := ⟨lw_S q1683 q1684 q104 q1685, ⟨by decide +kernel, by decide +kernel, by decide +kernel⟩⟩
theorem kJ5_100 : KV RJ5 100 RJ5 yJ5_pollLast prog_45_method_21_code 4 (some (Jvm.ClassFile.FieldType.object "java/lang/Object")) 0 := ⟨lw_V q2038 q2039 q2040 q110 q2041, rfl, ⟨by decide +kernel, by decide +kernel, by decide +kernel⟩⟩
theorem kJ5_68 : KS RJ5 68 yJ5_dec prog_45_method_7_code 2 (some Jvm.ClassFile.FieldType.int) 2 := ⟨lw_S q2042 q2043 q110 q2044, ⟨by decide +kernel, by decide +kernel, by decide +kernel⟩⟩
theorem kX7_15 : KI RX7 15 yJ33_init object_method_1_code 1 0 := ⟨q156, q2521, q1806, q155, rfl, ⟨by decide +kernel, by decide +kernel, by decide +kernel⟩⟩
theorem kX3_88 : KSN RX3 88 yX1_lowest prog_1_method_6_code 2 (some Jvm.ClassFile.FieldType.int) 1 "LakeLevels" := ⟨q543, q102, q912, q542, ⟨by decide +kernel, by decide +kernel, by decide +kernel⟩⟩
theorem kX3_96 : KSN RX3 96 yX1_has prog_1_method_5_code 3 (some Jvm.ClassFile.FieldType.boolean) 2 "LakeLevels" := ⟨q303, q102, q955, q302, ⟨by decide +kernel, by decide +kernel, by decide +kernel⟩⟩
theorem kX1_280 : KIN RX1 280 yX10_init prog_9_method_1_code 2 1 "LakeLevels" := ⟨q1403, q147, q1401, q1402, rfl, ⟨by decide +kernel, by decide +kernel, by decide +kernel⟩⟩
theorem kX2_115 : KSN RX2 115 yX1_has prog_1_method_5_code 3 (some Jvm.ClassFile.FieldType.boolean) 2 "LakeLevels" := ⟨q303, q102, q301, q302, ⟨by decide +kernel, by decide +kernel, by decide +kernel⟩⟩
theorem kX2_140 : KSN RX2 140 yX1_lowest prog_1_method_6_code 2 (some Jvm.ClassFile.FieldType.int) 1 "LakeLevels" := ⟨q543, q102, q541, q542, ⟨by decide +kernel, by decide +kernel, by decide +kernel⟩⟩
theorem kX4_58 : KSN RX4 58 yX1_has prog_1_method_5_code 3 (some Jvm.ClassFile.FieldType.boolean) 2 "LakeLevels" := ⟨q303, q102, q579, q302, ⟨by decide +kernel, by decide +kernel, by decide +kernel⟩⟩
theorem kX4_91 : KSN RX4 91 yX1_gcd prog_1_method_7_code 5 (some Jvm.ClassFile.FieldType.int) 2 "LakeLevels" := ⟨q1016, q102, q1014, q1015, ⟨by decide +kernel, by decide +kernel, by decide +kernel⟩⟩
theorem kX4_48 : KSN RX4 48 yX1_lowest prog_1_method_6_code 2 (some Jvm.ClassFile.FieldType.int) 1 "LakeLevels" := ⟨q543, q102, q1072, q542, ⟨by decide +kernel, by decide +kernel, by decide +kernel⟩⟩
theorem nX3_9 : NW RX3 9 11 [iV 0, iV 0, .null, .null] := ⟨RJ4, TJ4, 4, tyJ4, rfl, in_J4, tyJ4_ok, q223, q224, q109, fun j hj => by match j, hj with
  | 0, _ => rfl
  | 1, _ => rfl
  | 2, _ => rfl
  | 3, _ => rfl
  | j + 4, h => exact absurd h (by omega), by decide⟩
theorem nX3_18 : NW RX3 18 3 [jV 0, iV 0, iV 0, iV 0, iV 0, iV 0, .null, .null] := ⟨RX4, TX4, 8, tyX4, rfl, in_X4, tyX4_ok, q259, q562, q121, fun j hj => by match j, hj with
  | 0, _ => rfl
  | 1, _ => rfl
  | 2, _ => rfl
  | 3, _ => rfl
  | 4, _ => rfl
  | 5, _ => rfl
  | 6, _ => rfl
  | 7, _ => rfl
  | j + 8, h => exact absurd h (by omega), by decide⟩
theorem nX3_13 : NW RX3 13 2 [.null, .null, .null, jV 0, jV 0, jV 0] := ⟨RX3, TX3, 6, tyX3, rfl, in_X3, tyX3_ok, q1031, q218, q105, fun j hj => by match j, hj with
  | 0, _ => rfl
  | 1, _ => rfl
  | 2, _ => rfl
  | 3, _ => rfl
  | 4, _ => rfl
  | 5, _ => rfl
  | j + 6, h => exact absurd h (by omega), by decide⟩
theorem nX3_181 : NW RX3 181 15 [iV 0, .null, iV 0] := ⟨RJ25, TJ25, 3, tyJ25, rfl, in_J25, tyJ25_ok, q1932, q1098, q135, fun j hj => by match j, hj with
  | 0, _ => rfl
  | 1, _ => rfl
  | 2, _ => rfl
  | j + 3, h => exact absurd h (by omega), by decide⟩
theorem nX1_30 : NW RX1 30 1 [iV 0, iV 0, .null, jV 0, .null, .null, .null, .null, .null, iV 0] := ⟨RX2, TX2, 10, tyX2, rfl, in_X2, tyX2_ok, q157, q158, q103, fun j hj => by match j, hj with
  | 0, _ => rfl
  | 1, _ => rfl
  | 2, _ => rfl
  | 3, _ => rfl
  | 4, _ => rfl
  | 5, _ => rfl
  | 6, _ => rfl
  | 7, _ => rfl
  | 8, _ => rfl
  | 9, _ => rfl
  | j + 10, h => exact absurd h (by omega), by decide⟩
theorem nX1_56 : NW RX1 56 2 [.null, .null, .null, jV 0, jV 0, jV 0] := ⟨RX3, TX3, 6, tyX3, rfl, in_X3, tyX3_ok, q217, q218, q105, fun j hj => by match j, hj with
  | 0, _ => rfl
  | 1, _ => rfl
  | 2, _ => rfl
  | 3, _ => rfl
  | 4, _ => rfl
  | 5, _ => rfl
  | j + 6, h => exact absurd h (by omega), by decide⟩
theorem nX1_45 : NW RX1 45 14 [.null, iV 0, iV 0] := ⟨RJ5, TJ5, 3, tyJ5, rfl, in_J5, tyJ5_ok, q956, q309, q110, fun j hj => by match j, hj with
  | 0, _ => rfl
  | 1, _ => rfl
  | 2, _ => rfl
  | j + 3, h => exact absurd h (by omega), by decide⟩
theorem nX1_286 : NW RX1 286 10 [.null, .null, .null, .null, .null, iV 0, iV 0] := ⟨RX11, TX11, 7, tyX11, rfl, in_X11, tyX11_ok, q1398, q1429, q148, fun j hj => by match j, hj with
  | 0, _ => rfl
  | 1, _ => rfl
  | 2, _ => rfl
  | 3, _ => rfl
  | 4, _ => rfl
  | 5, _ => rfl
  | 6, _ => rfl
  | j + 7, h => exact absurd h (by omega), by decide⟩
theorem nX1_278 : NW RX1 278 9 [iV 0, .null] := ⟨RX10, TX10, 2, tyX10, rfl, in_X10, tyX10_ok, q1399, q1400, q147, fun j hj => by match j, hj with
  | 0, _ => rfl
  | 1, _ => rfl
  | j + 2, h => exact absurd h (by omega), by decide⟩
theorem nX1_115 : NW RX1 115 3 [jV 0, iV 0, iV 0, iV 0, iV 0, iV 0, .null, .null] := ⟨RX4, TX4, 8, tyX4, rfl, in_X4, tyX4_ok, q1566, q562, q121, fun j hj => by match j, hj with
  | 0, _ => rfl
  | 1, _ => rfl
  | 2, _ => rfl
  | 3, _ => rfl
  | 4, _ => rfl
  | 5, _ => rfl
  | 6, _ => rfl
  | 7, _ => rfl
  | j + 8, h => exact absurd h (by omega), by decide⟩
theorem nX1_145 : NW RX1 145 5 [iV 0, iV 0, .null] := ⟨RX6, TX6, 3, tyX6, rfl, in_X6, tyX6_ok, q1644, q1645, q134, fun j hj => by match j, hj with
  | 0, _ => rfl
  | 1, _ => rfl
  | 2, _ => rfl
  | j + 3, h => exact absurd h (by omega), by decide⟩
theorem nX1_117 : NW RX1 117 15 [iV 0, .null, iV 0] := ⟨RJ25, TJ25, 3, tyJ25, rfl, in_J25, tyJ25_ok, q1663, q1098, q135, fun j hj => by match j, hj with
  | 0, _ => rfl
  | 1, _ => rfl
  | 2, _ => rfl
  | j + 3, h => exact absurd h (by omega), by decide⟩
theorem nX1_162 : NW RX1 162 6 [iV 0, iV 0, .null] := ⟨RX7, TX7, 3, tyX7, rfl, in_X7, tyX7_ok, q1801, q1802, q144, fun j hj => by match j, hj with
  | 0, _ => rfl
  | 1, _ => rfl
  | 2, _ => rfl
  | j + 3, h => exact absurd h (by omega), by decide⟩
theorem nX1_174 : NW RX1 174 7 [iV 0, iV 0, iV 0] := ⟨RX8, TX8, 3, tyX8, rfl, in_X8, tyX8_ok, q1830, q1831, q145, fun j hj => by match j, hj with
  | 0, _ => rfl
  | 1, _ => rfl
  | 2, _ => rfl
  | j + 3, h => exact absurd h (by omega), by decide⟩
theorem nX1_180 : NW RX1 180 8 [iV 0, iV 0, .null] := ⟨RX9, TX9, 3, tyX9, rfl, in_X9, tyX9_ok, q1854, q1855, q146, fun j hj => by match j, hj with
  | 0, _ => rfl
  | 1, _ => rfl
  | 2, _ => rfl
  | j + 3, h => exact absurd h (by omega), by decide⟩
theorem nX2_87 : NW RX2 87 14 [.null, iV 0, iV 0] := ⟨RJ5, TJ5, 3, tyJ5, rfl, in_J5, tyJ5_ok, q308, q309, q110, fun j hj => by match j, hj with
  | 0, _ => rfl
  | 1, _ => rfl
  | 2, _ => rfl
  | j + 3, h => exact absurd h (by omega), by decide⟩
theorem nX2_91 : NW RX2 91 17 [iV 0] := ⟨RJ7, TJ7, 1, tyJ7, rfl, in_J7, tyJ7_ok, q497, q334, q112, fun j hj => by match j, hj with
  | 0, _ => rfl
  | j + 1, h => exact absurd h (by omega), by decide⟩
theorem nX2_10 : NW RX2 10 1 [iV 0, iV 0, .null, jV 0, .null, .null, .null, .null, .null, iV 0] := ⟨RX2, TX2, 10, tyX2, rfl, in_X2, tyX2_ok, q1036, q158, q103, fun j hj => by match j, hj with
  | 0, _ => rfl
  | 1, _ => rfl
  | 2, _ => rfl
  | 3, _ => rfl
  | 4, _ => rfl
  | 5, _ => rfl
  | 6, _ => rfl
  | 7, _ => rfl
  | 8, _ => rfl
  | 9, _ => rfl
  | j + 10, h => exact absurd h (by omega), by decide⟩
theorem nX10_26 : NW RX10 26 10 [.null, .null, .null, .null, .null, iV 0, iV 0] := ⟨RX11, TX11, 7, tyX11, rfl, in_X11, tyX11_ok, q1428, q1429, q148, fun j hj => by match j, hj with
  | 0, _ => rfl
  | 1, _ => rfl
  | 2, _ => rfl
  | 3, _ => rfl
  | 4, _ => rfl
  | 5, _ => rfl
  | 6, _ => rfl
  | j + 7, h => exact absurd h (by omega), by decide⟩
theorem nX10_40 : NW RX10 40 1 [iV 0, iV 0, .null, jV 0, .null, .null, .null, .null, .null, iV 0] := ⟨RX2, TX2, 10, tyX2, rfl, in_X2, tyX2_ok, q1452, q158, q103, fun j hj => by match j, hj with
  | 0, _ => rfl
  | 1, _ => rfl
  | 2, _ => rfl
  | 3, _ => rfl
  | 4, _ => rfl
  | 5, _ => rfl
  | 6, _ => rfl
  | 7, _ => rfl
  | 8, _ => rfl
  | 9, _ => rfl
  | j + 10, h => exact absurd h (by omega), by decide⟩
theorem nJ7_1 : NW RJ7 1 17 [iV 0] := ⟨RJ7, TJ7, 1, tyJ7, rfl, in_J7, tyJ7_ok, q333, q334, q112, fun j hj => by match j, hj with
  | 0, _ => rfl
  | j + 1, h => exact absurd h (by omega), by decide⟩
theorem nX0_8 : NW RX0 8 0 [.null, .null, .null, iV 0] := ⟨RX1, TX1, 4, tyX1, rfl, in_X1, tyX1_ok, q149, q150, q102, fun j hj => by match j, hj with
  | 0, _ => rfl
  | 1, _ => rfl
  | 2, _ => rfl
  | 3, _ => rfl
  | j + 4, h => exact absurd h (by omega), by decide⟩
theorem nX0_90 : NW RX0 90 4 [.null, .null, .null, iV 0, iV 0, .null, iV 0, iV 0, iV 0, .null, .null, .null, iV 0, jV 0, jV 0, .null, .null, iV 0, .null, .null, .null, iV 0, iV 0, iV 0, .null] := ⟨RX5, TX5, 25, tyX5, rfl, in_X5, tyX5_ok, q2045, q2046, q132, fun j hj => by match j, hj with
  | 0, _ => rfl
  | 1, _ => rfl
  | 2, _ => rfl
  | 3, _ => rfl
  | 4, _ => rfl
  | 5, _ => rfl
  | 6, _ => rfl
  | 7, _ => rfl
  | 8, _ => rfl
  | 9, _ => rfl
  | 10, _ => rfl
  | 11, _ => rfl
  | 12, _ => rfl
  | 13, _ => rfl
  | 14, _ => rfl
  | 15, _ => rfl
  | 16, _ => rfl
  | 17, _ => rfl
  | 18, _ => rfl
  | 19, _ => rfl
  | 20, _ => rfl
  | 21, _ => rfl
  | 22, _ => rfl
  | 23, _ => rfl
  | 24, _ => rfl
  | j + 25, h => exact absurd h (by omega), by decide⟩
theorem nJ4_22 : NW RJ4 22 12 [.null, .null, .null] := ⟨RJ23, TJ23, 3, tyJ23, rfl, in_J23, tyJ23_ok, q929, q930, q131, fun j hj => by match j, hj with
  | 0, _ => rfl
  | 1, _ => rfl
  | 2, _ => rfl
  | j + 3, h => exact absurd h (by omega), by decide⟩
theorem nJ4_150 : NW RJ4 150 13 [.null, .null, iV 0, iV 0, .null] := ⟨RJ29, TJ29, 5, tyJ29, rfl, in_J29, tyJ29_ok, q1143, q1144, q140, fun j hj => by match j, hj with
  | 0, _ => rfl
  | 1, _ => rfl
  | 2, _ => rfl
  | 3, _ => rfl
  | 4, _ => rfl
  | j + 5, h => exact absurd h (by omega), by decide⟩
theorem nX4_4 : NW RX4 4 3 [jV 0, iV 0, iV 0, iV 0, iV 0, iV 0, .null, .null] := ⟨RX4, TX4, 8, tyX4, rfl, in_X4, tyX4_ok, q1044, q562, q121, fun j hj => by match j, hj with
  | 0, _ => rfl
  | 1, _ => rfl
  | 2, _ => rfl
  | 3, _ => rfl
  | 4, _ => rfl
  | 5, _ => rfl
  | 6, _ => rfl
  | 7, _ => rfl
  | j + 8, h => exact absurd h (by omega), by decide⟩
theorem nJ25_10 : NW RJ25 10 15 [iV 0, .null, iV 0] := ⟨RJ25, TJ25, 3, tyJ25, rfl, in_J25, tyJ25_ok, q1708, q1098, q135, fun j hj => by match j, hj with
  | 0, _ => rfl
  | 1, _ => rfl
  | 2, _ => rfl
  | j + 3, h => exact absurd h (by omega), by decide⟩
theorem nJ25_267 : NW RJ25 267 16 [iV 0, iV 0, iV 0, .null] := ⟨RJ27, TJ27, 4, tyJ27, rfl, in_J27, tyJ27_ok, q1781, q1782, q138, fun j hj => by match j, hj with
  | 0, _ => rfl
  | 1, _ => rfl
  | 2, _ => rfl
  | 3, _ => rfl
  | j + 4, h => exact absurd h (by omega), by decide⟩
