set_option maxRecDepth 100000
abbrev cX5_meanLeft : ByteArray := prog_17_method_67_code
def yX5_meanLeft : MethodName := ⟨RX5, "meanLeft", "()I"⟩
def dkwX5_meanLeft_2 : List UInt8 := [105, 42, 2, 182, 1, 7, 109, 136, 172]
abbrev dktX5_meanLeft_2 : List UInt8 := dkwX5_meanLeft_2 ++ []
def dkwX5_meanLeft_1 : List UInt8 := [182, 1, 1, 42, 182, 0, 237, 184, 0, 243, 133, 105, 97, 64, 132, 3, 1, 167, 255, 220, 20, 1, 11, 31]
abbrev dktX5_meanLeft_1 : List UInt8 := dkwX5_meanLeft_1 ++ dktX5_meanLeft_2
def dkwX5_meanLeft_0 : List UInt8 := [9, 64, 3, 62, 29, 4, 42, 180, 0, 89, 120, 162, 0, 32, 42, 29, 182, 0, 117, 31, 42, 29, 2]
abbrev dktX5_meanLeft_0 : List UInt8 := dkwX5_meanLeft_0 ++ dktX5_meanLeft_1
theorem dksX5_meanLeft_0 : cX5_meanLeft.data.toList.drop 0 = dktX5_meanLeft_0 := by decide +kernel
theorem dksX5_meanLeft_1 : cX5_meanLeft.data.toList.drop 23 = dktX5_meanLeft_1 := dk_seg dksX5_meanLeft_0 23 rfl rfl
theorem dksX5_meanLeft_2 : cX5_meanLeft.data.toList.drop 47 = dktX5_meanLeft_2 := dk_seg dksX5_meanLeft_1 24 rfl rfl
theorem dX5_meanLeft_0 : decode cX5_meanLeft 0 = .ok (.lconst 0, 1) := dk_9 (dk_at dksX5_meanLeft_0 0 rfl rfl)
theorem dX5_meanLeft_1 : decode cX5_meanLeft 1 = .ok (.lstore_n 1, 1) := dk_64 (dk_at dksX5_meanLeft_0 1 rfl rfl)
theorem dX5_meanLeft_2 : decode cX5_meanLeft 2 = .ok (.iconst 0, 1) := dk_3 (dk_at dksX5_meanLeft_0 2 rfl rfl)
theorem dX5_meanLeft_3 : decode cX5_meanLeft 3 = .ok (.istore_n 3, 1) := dk_62 (dk_at dksX5_meanLeft_0 3 rfl rfl)
theorem dX5_meanLeft_4 : decode cX5_meanLeft 4 = .ok (.iload_n 3, 1) := dk_29 (dk_at dksX5_meanLeft_0 4 rfl rfl)
theorem dX5_meanLeft_5 : decode cX5_meanLeft 5 = .ok (.iconst 1, 1) := dk_4 (dk_at dksX5_meanLeft_0 5 rfl rfl)
theorem dX5_meanLeft_6 : decode cX5_meanLeft 6 = .ok (.aload_n 0, 1) := dk_42 (dk_at dksX5_meanLeft_0 6 rfl rfl)
theorem dX5_meanLeft_7 : decode cX5_meanLeft 7 = .ok (.getfield 89, 3) := dk_180 0 89 (dk_at dksX5_meanLeft_0 7 rfl rfl)
theorem dX5_meanLeft_10 : decode cX5_meanLeft 10 = .ok (.ishl, 1) := dk_120 (dk_at dksX5_meanLeft_0 10 rfl rfl)
theorem dX5_meanLeft_11 : decode cX5_meanLeft 11 = .ok (.if_icmp .ge 32, 3) := dk_162 0 32 (dk_at dksX5_meanLeft_0 11 rfl rfl)
theorem dX5_meanLeft_14 : decode cX5_meanLeft 14 = .ok (.aload_n 0, 1) := dk_42 (dk_at dksX5_meanLeft_0 14 rfl rfl)
theorem dX5_meanLeft_15 : decode cX5_meanLeft 15 = .ok (.iload_n 3, 1) := dk_29 (dk_at dksX5_meanLeft_0 15 rfl rfl)
theorem dX5_meanLeft_16 : decode cX5_meanLeft 16 = .ok (.invokevirtual 117, 3) := dk_182 0 117 (dk_at dksX5_meanLeft_0 16 rfl rfl)
theorem dX5_meanLeft_19 : decode cX5_meanLeft 19 = .ok (.lload_n 1, 1) := dk_31 (dk_at dksX5_meanLeft_0 19 rfl rfl)
theorem dX5_meanLeft_20 : decode cX5_meanLeft 20 = .ok (.aload_n 0, 1) := dk_42 (dk_at dksX5_meanLeft_0 20 rfl rfl)
theorem dX5_meanLeft_21 : decode cX5_meanLeft 21 = .ok (.iload_n 3, 1) := dk_29 (dk_at dksX5_meanLeft_0 21 rfl rfl)
theorem dX5_meanLeft_22 : decode cX5_meanLeft 22 = .ok (.iconst (-1), 1) := dk_2 (dk_at dksX5_meanLeft_0 22 rfl rfl)
theorem dX5_meanLeft_23 : decode cX5_meanLeft 23 = .ok (.invokevirtual 257, 3) := dk_182 1 1 (dk_at dksX5_meanLeft_1 0 rfl rfl)
theorem dX5_meanLeft_26 : decode cX5_meanLeft 26 = .ok (.aload_n 0, 1) := dk_42 (dk_at dksX5_meanLeft_1 3 rfl rfl)
theorem dX5_meanLeft_27 : decode cX5_meanLeft 27 = .ok (.invokevirtual 237, 3) := dk_182 0 237 (dk_at dksX5_meanLeft_1 4 rfl rfl)
theorem dX5_meanLeft_30 : decode cX5_meanLeft 30 = .ok (.invokestatic 243, 3) := dk_184 0 243 (dk_at dksX5_meanLeft_1 7 rfl rfl)
theorem dX5_meanLeft_33 : decode cX5_meanLeft 33 = .ok (.i2l, 1) := dk_133 (dk_at dksX5_meanLeft_1 10 rfl rfl)
theorem dX5_meanLeft_34 : decode cX5_meanLeft 34 = .ok (.lmul, 1) := dk_105 (dk_at dksX5_meanLeft_1 11 rfl rfl)
theorem dX5_meanLeft_35 : decode cX5_meanLeft 35 = .ok (.ladd, 1) := dk_97 (dk_at dksX5_meanLeft_1 12 rfl rfl)
theorem dX5_meanLeft_36 : decode cX5_meanLeft 36 = .ok (.lstore_n 1, 1) := dk_64 (dk_at dksX5_meanLeft_1 13 rfl rfl)
theorem dX5_meanLeft_37 : decode cX5_meanLeft 37 = .ok (.iinc 3 1, 3) := dk_132 3 1 (dk_at dksX5_meanLeft_1 14 rfl rfl)
theorem dX5_meanLeft_40 : decode cX5_meanLeft 40 = .ok (.goto (-36), 3) := dk_167 255 220 (dk_at dksX5_meanLeft_1 17 rfl rfl)
theorem dX5_meanLeft_43 : decode cX5_meanLeft 43 = .ok (.ldc2_w 267, 3) := dk_20 1 11 (dk_at dksX5_meanLeft_1 20 rfl rfl)
theorem dX5_meanLeft_46 : decode cX5_meanLeft 46 = .ok (.lload_n 1, 1) := dk_31 (dk_at dksX5_meanLeft_1 23 rfl rfl)
theorem dX5_meanLeft_47 : decode cX5_meanLeft 47 = .ok (.lmul, 1) := dk_105 (dk_at dksX5_meanLeft_2 0 rfl rfl)
theorem dX5_meanLeft_48 : decode cX5_meanLeft 48 = .ok (.aload_n 0, 1) := dk_42 (dk_at dksX5_meanLeft_2 1 rfl rfl)
theorem dX5_meanLeft_49 : decode cX5_meanLeft 49 = .ok (.iconst (-1), 1) := dk_2 (dk_at dksX5_meanLeft_2 2 rfl rfl)
theorem dX5_meanLeft_50 : decode cX5_meanLeft 50 = .ok (.invokevirtual 263, 3) := dk_182 1 7 (dk_at dksX5_meanLeft_2 3 rfl rfl)
theorem dX5_meanLeft_53 : decode cX5_meanLeft 53 = .ok (.ldiv, 1) := dk_109 (dk_at dksX5_meanLeft_2 6 rfl rfl)
theorem dX5_meanLeft_54 : decode cX5_meanLeft 54 = .ok (.l2i, 1) := dk_136 (dk_at dksX5_meanLeft_2 7 rfl rfl)
theorem dX5_meanLeft_55 : decode cX5_meanLeft 55 = .ok (.ireturn, 1) := dk_172 (dk_at dksX5_meanLeft_2 8 rfl rfl)
abbrev cX5_empty : ByteArray := prog_17_method_68_code
def yX5_empty : MethodName := ⟨RX5, "empty", "(I)I"⟩
def dkwX5_empty_2 : List UInt8 := [154, 0, 9, 28, 4, 29, 120, 128, 61, 132, 3, 1, 167, 255, 222, 28, 172]
abbrev dktX5_empty_2 : List UInt8 := dkwX5_empty_2 ++ []
def dkwX5_empty_1 : List UInt8 := [29, 42, 180, 0, 89, 162, 0, 32, 27, 29, 184, 0, 194, 153, 0, 18, 42, 180, 0, 62, 29, 46]
abbrev dktX5_empty_1 : List UInt8 := dkwX5_empty_1 ++ dktX5_empty_2
def dkwX5_empty_0 : List UInt8 := [42, 27, 182, 0, 234, 154, 0, 10, 42, 16, 254, 182, 0, 96, 172, 42, 27, 182, 0, 117, 3, 61, 3, 62]
abbrev dktX5_empty_0 : List UInt8 := dkwX5_empty_0 ++ dktX5_empty_1
theorem dksX5_empty_0 : cX5_empty.data.toList.drop 0 = dktX5_empty_0 := by decide +kernel
theorem dksX5_empty_1 : cX5_empty.data.toList.drop 24 = dktX5_empty_1 := dk_seg dksX5_empty_0 24 rfl rfl
theorem dksX5_empty_2 : cX5_empty.data.toList.drop 46 = dktX5_empty_2 := dk_seg dksX5_empty_1 22 rfl rfl
theorem dX5_empty_0 : decode cX5_empty 0 = .ok (.aload_n 0, 1) := dk_42 (dk_at dksX5_empty_0 0 rfl rfl)
theorem dX5_empty_1 : decode cX5_empty 1 = .ok (.iload_n 1, 1) := dk_27 (dk_at dksX5_empty_0 1 rfl rfl)
theorem dX5_empty_2 : decode cX5_empty 2 = .ok (.invokevirtual 234, 3) := dk_182 0 234 (dk_at dksX5_empty_0 2 rfl rfl)
theorem dX5_empty_5 : decode cX5_empty 5 = .ok (.ifCond .ne 10, 3) := dk_154 0 10 (dk_at dksX5_empty_0 5 rfl rfl)
theorem dX5_empty_8 : decode cX5_empty 8 = .ok (.aload_n 0, 1) := dk_42 (dk_at dksX5_empty_0 8 rfl rfl)
theorem dX5_empty_9 : decode cX5_empty 9 = .ok (.bipush (-2), 2) := dk_16 254 (dk_at dksX5_empty_0 9 rfl rfl)
theorem dX5_empty_11 : decode cX5_empty 11 = .ok (.invokevirtual 96, 3) := dk_182 0 96 (dk_at dksX5_empty_0 11 rfl rfl)
theorem dX5_empty_14 : decode cX5_empty 14 = .ok (.ireturn, 1) := dk_172 (dk_at dksX5_empty_0 14 rfl rfl)
theorem dX5_empty_15 : decode cX5_empty 15 = .ok (.aload_n 0, 1) := dk_42 (dk_at dksX5_empty_0 15 rfl rfl)
theorem dX5_empty_16 : decode cX5_empty 16 = .ok (.iload_n 1, 1) := dk_27 (dk_at dksX5_empty_0 16 rfl rfl)
theorem dX5_empty_17 : decode cX5_empty 17 = .ok (.invokevirtual 117, 3) := dk_182 0 117 (dk_at dksX5_empty_0 17 rfl rfl)
theorem dX5_empty_20 : decode cX5_empty 20 = .ok (.iconst 0, 1) := dk_3 (dk_at dksX5_empty_0 20 rfl rfl)
theorem dX5_empty_21 : decode cX5_empty 21 = .ok (.istore_n 2, 1) := dk_61 (dk_at dksX5_empty_0 21 rfl rfl)
theorem dX5_empty_22 : decode cX5_empty 22 = .ok (.iconst 0, 1) := dk_3 (dk_at dksX5_empty_0 22 rfl rfl)
theorem dX5_empty_23 : decode cX5_empty 23 = .ok (.istore_n 3, 1) := dk_62 (dk_at dksX5_empty_0 23 rfl rfl)
theorem dX5_empty_24 : decode cX5_empty 24 = .ok (.iload_n 3, 1) := dk_29 (dk_at dksX5_empty_1 0 rfl rfl)
theorem dX5_empty_25 : decode cX5_empty 25 = .ok (.aload_n 0, 1) := dk_42 (dk_at dksX5_empty_1 1 rfl rfl)
theorem dX5_empty_26 : decode cX5_empty 26 = .ok (.getfield 89, 3) := dk_180 0 89 (dk_at dksX5_empty_1 2 rfl rfl)
theorem dX5_empty_29 : decode cX5_empty 29 = .ok (.if_icmp .ge 32, 3) := dk_162 0 32 (dk_at dksX5_empty_1 5 rfl rfl)
theorem dX5_empty_32 : decode cX5_empty 32 = .ok (.iload_n 1, 1) := dk_27 (dk_at dksX5_empty_1 8 rfl rfl)
theorem dX5_empty_33 : decode cX5_empty 33 = .ok (.iload_n 3, 1) := dk_29 (dk_at dksX5_empty_1 9 rfl rfl)
theorem dX5_empty_34 : decode cX5_empty 34 = .ok (.invokestatic 194, 3) := dk_184 0 194 (dk_at dksX5_empty_1 10 rfl rfl)
theorem dX5_empty_37 : decode cX5_empty 37 = .ok (.ifCond .eq 18, 3) := dk_153 0 18 (dk_at dksX5_empty_1 13 rfl rfl)
theorem dX5_empty_40 : decode cX5_empty 40 = .ok (.aload_n 0, 1) := dk_42 (dk_at dksX5_empty_1 16 rfl rfl)
theorem dX5_empty_41 : decode cX5_empty 41 = .ok (.getfield 62, 3) := dk_180 0 62 (dk_at dksX5_empty_1 17 rfl rfl)
theorem dX5_empty_44 : decode cX5_empty 44 = .ok (.iload_n 3, 1) := dk_29 (dk_at dksX5_empty_1 20 rfl rfl)
theorem dX5_empty_45 : decode cX5_empty 45 = .ok (.iaload, 1) := dk_46 (dk_at dksX5_empty_1 21 rfl rfl)
theorem dX5_empty_46 : decode cX5_empty 46 = .ok (.ifCond .ne 9, 3) := dk_154 0 9 (dk_at dksX5_empty_2 0 rfl rfl)
theorem dX5_empty_49 : decode cX5_empty 49 = .ok (.iload_n 2, 1) := dk_28 (dk_at dksX5_empty_2 3 rfl rfl)
theorem dX5_empty_50 : decode cX5_empty 50 = .ok (.iconst 1, 1) := dk_4 (dk_at dksX5_empty_2 4 rfl rfl)
theorem dX5_empty_51 : decode cX5_empty 51 = .ok (.iload_n 3, 1) := dk_29 (dk_at dksX5_empty_2 5 rfl rfl)
theorem dX5_empty_52 : decode cX5_empty 52 = .ok (.ishl, 1) := dk_120 (dk_at dksX5_empty_2 6 rfl rfl)
theorem dX5_empty_53 : decode cX5_empty 53 = .ok (.ior, 1) := dk_128 (dk_at dksX5_empty_2 7 rfl rfl)
theorem dX5_empty_54 : decode cX5_empty 54 = .ok (.istore_n 2, 1) := dk_61 (dk_at dksX5_empty_2 8 rfl rfl)
theorem dX5_empty_55 : decode cX5_empty 55 = .ok (.iinc 3 1, 3) := dk_132 3 1 (dk_at dksX5_empty_2 9 rfl rfl)
theorem dX5_empty_58 : decode cX5_empty 58 = .ok (.goto (-34), 3) := dk_167 255 222 (dk_at dksX5_empty_2 12 rfl rfl)
theorem dX5_empty_61 : decode cX5_empty 61 = .ok (.iload_n 2, 1) := dk_28 (dk_at dksX5_empty_2 15 rfl rfl)
theorem dX5_empty_62 : decode cX5_empty 62 = .ok (.ireturn, 1) := dk_172 (dk_at dksX5_empty_2 16 rfl rfl)
abbrev cX5_without : ByteArray := prog_17_method_69_code
def yX5_without : MethodName := ⟨RX5, "without", "(I)I"⟩
def dkwX5_without_1 : List UInt8 := [182, 0, 240, 167, 0, 9, 42, 16, 254, 182, 0, 96, 172]
abbrev dktX5_without_1 : List UInt8 := dkwX5_without_1 ++ []
def dkwX5_without_0 : List UInt8 := [42, 27, 182, 0, 110, 153, 0, 24, 42, 4, 42, 180, 0, 89, 120, 4, 100, 4, 27, 120, 2, 130, 126]
abbrev dktX5_without_0 : List UInt8 := dkwX5_without_0 ++ dktX5_without_1
theorem dksX5_without_0 : cX5_without.data.toList.drop 0 = dktX5_without_0 := by decide +kernel
theorem dksX5_without_1 : cX5_without.data.toList.drop 23 = dktX5_without_1 := dk_seg dksX5_without_0 23 rfl rfl
theorem dX5_without_0 : decode cX5_without 0 = .ok (.aload_n 0, 1) := dk_42 (dk_at dksX5_without_0 0 rfl rfl)
theorem dX5_without_1 : decode cX5_without 1 = .ok (.iload_n 1, 1) := dk_27 (dk_at dksX5_without_0 1 rfl rfl)
theorem dX5_without_2 : decode cX5_without 2 = .ok (.invokevirtual 110, 3) := dk_182 0 110 (dk_at dksX5_without_0 2 rfl rfl)
theorem dX5_without_5 : decode cX5_without 5 = .ok (.ifCond .eq 24, 3) := dk_153 0 24 (dk_at dksX5_without_0 5 rfl rfl)
theorem dX5_without_8 : decode cX5_without 8 = .ok (.aload_n 0, 1) := dk_42 (dk_at dksX5_without_0 8 rfl rfl)
theorem dX5_without_9 : decode cX5_without 9 = .ok (.iconst 1, 1) := dk_4 (dk_at dksX5_without_0 9 rfl rfl)
theorem dX5_without_10 : decode cX5_without 10 = .ok (.aload_n 0, 1) := dk_42 (dk_at dksX5_without_0 10 rfl rfl)
theorem dX5_without_11 : decode cX5_without 11 = .ok (.getfield 89, 3) := dk_180 0 89 (dk_at dksX5_without_0 11 rfl rfl)
theorem dX5_without_14 : decode cX5_without 14 = .ok (.ishl, 1) := dk_120 (dk_at dksX5_without_0 14 rfl rfl)
theorem dX5_without_15 : decode cX5_without 15 = .ok (.iconst 1, 1) := dk_4 (dk_at dksX5_without_0 15 rfl rfl)
theorem dX5_without_16 : decode cX5_without 16 = .ok (.isub, 1) := dk_100 (dk_at dksX5_without_0 16 rfl rfl)
theorem dX5_without_17 : decode cX5_without 17 = .ok (.iconst 1, 1) := dk_4 (dk_at dksX5_without_0 17 rfl rfl)
theorem dX5_without_18 : decode cX5_without 18 = .ok (.iload_n 1, 1) := dk_27 (dk_at dksX5_without_0 18 rfl rfl)
theorem dX5_without_19 : decode cX5_without 19 = .ok (.ishl, 1) := dk_120 (dk_at dksX5_without_0 19 rfl rfl)
theorem dX5_without_20 : decode cX5_without 20 = .ok (.iconst (-1), 1) := dk_2 (dk_at dksX5_without_0 20 rfl rfl)
theorem dX5_without_21 : decode cX5_without 21 = .ok (.ixor, 1) := dk_130 (dk_at dksX5_without_0 21 rfl rfl)
theorem dX5_without_22 : decode cX5_without 22 = .ok (.iand, 1) := dk_126 (dk_at dksX5_without_0 22 rfl rfl)
theorem dX5_without_23 : decode cX5_without 23 = .ok (.invokevirtual 240, 3) := dk_182 0 240 (dk_at dksX5_without_1 0 rfl rfl)
theorem dX5_without_26 : decode cX5_without 26 = .ok (.goto 9, 3) := dk_167 0 9 (dk_at dksX5_without_1 3 rfl rfl)
theorem dX5_without_29 : decode cX5_without 29 = .ok (.aload_n 0, 1) := dk_42 (dk_at dksX5_without_1 6 rfl rfl)
theorem dX5_without_30 : decode cX5_without 30 = .ok (.bipush (-2), 2) := dk_16 254 (dk_at dksX5_without_1 7 rfl rfl)
theorem dX5_without_32 : decode cX5_without 32 = .ok (.invokevirtual 96, 3) := dk_182 0 96 (dk_at dksX5_without_1 9 rfl rfl)
theorem dX5_without_35 : decode cX5_without 35 = .ok (.ireturn, 1) := dk_172 (dk_at dksX5_without_1 12 rfl rfl)
abbrev cX5_exchanged : ByteArray := prog_17_method_71_code
def yX5_exchanged : MethodName := ⟨RX5, "exchanged", "(II)I"⟩
def dkwX5_exchanged_1 : List UInt8 := [182, 1, 13, 167, 0, 9, 42, 16, 254, 182, 0, 96, 172]
abbrev dktX5_exchanged_1 : List UInt8 := dkwX5_exchanged_1 ++ []
def dkwX5_exchanged_0 : List UInt8 := [42, 27, 182, 0, 110, 153, 0, 25, 42, 28, 182, 0, 110, 153, 0, 17, 27, 28, 159, 0, 12, 42, 27, 28]
abbrev dktX5_exchanged_0 : List UInt8 := dkwX5_exchanged_0 ++ dktX5_exchanged_1
theorem dksX5_exchanged_0 : cX5_exchanged.data.toList.drop 0 = dktX5_exchanged_0 := by decide +kernel
theorem dksX5_exchanged_1 : cX5_exchanged.data.toList.drop 24 = dktX5_exchanged_1 := dk_seg dksX5_exchanged_0 24 rfl rfl
theorem dX5_exchanged_0 : decode cX5_exchanged 0 = .ok (.aload_n 0, 1) := dk_42 (dk_at dksX5_exchanged_0 0 rfl rfl)
theorem dX5_exchanged_1 : decode cX5_exchanged 1 = .ok (.iload_n 1, 1) := dk_27 (dk_at dksX5_exchanged_0 1 rfl rfl)
theorem dX5_exchanged_2 : decode cX5_exchanged 2 = .ok (.invokevirtual 110, 3) := dk_182 0 110 (dk_at dksX5_exchanged_0 2 rfl rfl)
theorem dX5_exchanged_5 : decode cX5_exchanged 5 = .ok (.ifCond .eq 25, 3) := dk_153 0 25 (dk_at dksX5_exchanged_0 5 rfl rfl)
theorem dX5_exchanged_8 : decode cX5_exchanged 8 = .ok (.aload_n 0, 1) := dk_42 (dk_at dksX5_exchanged_0 8 rfl rfl)
theorem dX5_exchanged_9 : decode cX5_exchanged 9 = .ok (.iload_n 2, 1) := dk_28 (dk_at dksX5_exchanged_0 9 rfl rfl)
theorem dX5_exchanged_10 : decode cX5_exchanged 10 = .ok (.invokevirtual 110, 3) := dk_182 0 110 (dk_at dksX5_exchanged_0 10 rfl rfl)
theorem dX5_exchanged_13 : decode cX5_exchanged 13 = .ok (.ifCond .eq 17, 3) := dk_153 0 17 (dk_at dksX5_exchanged_0 13 rfl rfl)
theorem dX5_exchanged_16 : decode cX5_exchanged 16 = .ok (.iload_n 1, 1) := dk_27 (dk_at dksX5_exchanged_0 16 rfl rfl)
theorem dX5_exchanged_17 : decode cX5_exchanged 17 = .ok (.iload_n 2, 1) := dk_28 (dk_at dksX5_exchanged_0 17 rfl rfl)
theorem dX5_exchanged_18 : decode cX5_exchanged 18 = .ok (.if_icmp .eq 12, 3) := dk_159 0 12 (dk_at dksX5_exchanged_0 18 rfl rfl)
theorem dX5_exchanged_21 : decode cX5_exchanged 21 = .ok (.aload_n 0, 1) := dk_42 (dk_at dksX5_exchanged_0 21 rfl rfl)
theorem dX5_exchanged_22 : decode cX5_exchanged 22 = .ok (.iload_n 1, 1) := dk_27 (dk_at dksX5_exchanged_0 22 rfl rfl)
theorem dX5_exchanged_23 : decode cX5_exchanged 23 = .ok (.iload_n 2, 1) := dk_28 (dk_at dksX5_exchanged_0 23 rfl rfl)
theorem dX5_exchanged_24 : decode cX5_exchanged 24 = .ok (.invokevirtual 269, 3) := dk_182 1 13 (dk_at dksX5_exchanged_1 0 rfl rfl)
theorem dX5_exchanged_27 : decode cX5_exchanged 27 = .ok (.goto 9, 3) := dk_167 0 9 (dk_at dksX5_exchanged_1 3 rfl rfl)
theorem dX5_exchanged_30 : decode cX5_exchanged 30 = .ok (.aload_n 0, 1) := dk_42 (dk_at dksX5_exchanged_1 6 rfl rfl)
theorem dX5_exchanged_31 : decode cX5_exchanged 31 = .ok (.bipush (-2), 2) := dk_16 254 (dk_at dksX5_exchanged_1 7 rfl rfl)
theorem dX5_exchanged_33 : decode cX5_exchanged 33 = .ok (.invokevirtual 96, 3) := dk_182 0 96 (dk_at dksX5_exchanged_1 9 rfl rfl)
theorem dX5_exchanged_36 : decode cX5_exchanged 36 = .ok (.ireturn, 1) := dk_172 (dk_at dksX5_exchanged_1 12 rfl rfl)
abbrev cX5_exchanges : ByteArray := prog_17_method_70_code
def yX5_exchanges : MethodName := ⟨RX5, "exchanges", "(II)I"⟩
def dkwX5_exchanges_2 : List UInt8 := [180, 0, 19, 27, 46, 79, 42, 180, 0, 19, 27, 29, 79, 21, 4, 172]
abbrev dktX5_exchanges_2 : List UInt8 := dkwX5_exchanges_2 ++ []
def dkwX5_exchanges_1 : List UInt8 := [29, 79, 42, 4, 42, 180, 0, 89, 120, 4, 100, 182, 0, 240, 54, 4, 42, 180, 0, 19, 28, 42]
abbrev dktX5_exchanges_1 : List UInt8 := dkwX5_exchanges_1 ++ dktX5_exchanges_2
def dkwX5_exchanges_0 : List UInt8 := [42, 180, 0, 19, 27, 46, 62, 42, 180, 0, 19, 27, 42, 180, 0, 19, 28, 46, 79, 42, 180, 0, 19, 28]
abbrev dktX5_exchanges_0 : List UInt8 := dkwX5_exchanges_0 ++ dktX5_exchanges_1
theorem dksX5_exchanges_0 : cX5_exchanges.data.toList.drop 0 = dktX5_exchanges_0 := by decide +kernel
theorem dksX5_exchanges_1 : cX5_exchanges.data.toList.drop 24 = dktX5_exchanges_1 := dk_seg dksX5_exchanges_0 24 rfl rfl
theorem dksX5_exchanges_2 : cX5_exchanges.data.toList.drop 46 = dktX5_exchanges_2 := dk_seg dksX5_exchanges_1 22 rfl rfl
theorem dX5_exchanges_0 : decode cX5_exchanges 0 = .ok (.aload_n 0, 1) := dk_42 (dk_at dksX5_exchanges_0 0 rfl rfl)
theorem dX5_exchanges_1 : decode cX5_exchanges 1 = .ok (.getfield 19, 3) := dk_180 0 19 (dk_at dksX5_exchanges_0 1 rfl rfl)
theorem dX5_exchanges_4 : decode cX5_exchanges 4 = .ok (.iload_n 1, 1) := dk_27 (dk_at dksX5_exchanges_0 4 rfl rfl)
theorem dX5_exchanges_5 : decode cX5_exchanges 5 = .ok (.iaload, 1) := dk_46 (dk_at dksX5_exchanges_0 5 rfl rfl)
theorem dX5_exchanges_6 : decode cX5_exchanges 6 = .ok (.istore_n 3, 1) := dk_62 (dk_at dksX5_exchanges_0 6 rfl rfl)
theorem dX5_exchanges_7 : decode cX5_exchanges 7 = .ok (.aload_n 0, 1) := dk_42 (dk_at dksX5_exchanges_0 7 rfl rfl)
theorem dX5_exchanges_8 : decode cX5_exchanges 8 = .ok (.getfield 19, 3) := dk_180 0 19 (dk_at dksX5_exchanges_0 8 rfl rfl)
theorem dX5_exchanges_11 : decode cX5_exchanges 11 = .ok (.iload_n 1, 1) := dk_27 (dk_at dksX5_exchanges_0 11 rfl rfl)
theorem dX5_exchanges_12 : decode cX5_exchanges 12 = .ok (.aload_n 0, 1) := dk_42 (dk_at dksX5_exchanges_0 12 rfl rfl)
theorem dX5_exchanges_13 : decode cX5_exchanges 13 = .ok (.getfield 19, 3) := dk_180 0 19 (dk_at dksX5_exchanges_0 13 rfl rfl)
theorem dX5_exchanges_16 : decode cX5_exchanges 16 = .ok (.iload_n 2, 1) := dk_28 (dk_at dksX5_exchanges_0 16 rfl rfl)
theorem dX5_exchanges_17 : decode cX5_exchanges 17 = .ok (.iaload, 1) := dk_46 (dk_at dksX5_exchanges_0 17 rfl rfl)
theorem dX5_exchanges_18 : decode cX5_exchanges 18 = .ok (.iastore, 1) := dk_79 (dk_at dksX5_exchanges_0 18 rfl rfl)
theorem dX5_exchanges_19 : decode cX5_exchanges 19 = .ok (.aload_n 0, 1) := dk_42 (dk_at dksX5_exchanges_0 19 rfl rfl)
theorem dX5_exchanges_20 : decode cX5_exchanges 20 = .ok (.getfield 19, 3) := dk_180 0 19 (dk_at dksX5_exchanges_0 20 rfl rfl)
theorem dX5_exchanges_23 : decode cX5_exchanges 23 = .ok (.iload_n 2, 1) := dk_28 (dk_at dksX5_exchanges_0 23 rfl rfl)
theorem dX5_exchanges_24 : decode cX5_exchanges 24 = .ok (.iload_n 3, 1) := dk_29 (dk_at dksX5_exchanges_1 0 rfl rfl)
theorem dX5_exchanges_25 : decode cX5_exchanges 25 = .ok (.iastore, 1) := dk_79 (dk_at dksX5_exchanges_1 1 rfl rfl)
theorem dX5_exchanges_26 : decode cX5_exchanges 26 = .ok (.aload_n 0, 1) := dk_42 (dk_at dksX5_exchanges_1 2 rfl rfl)
theorem dX5_exchanges_27 : decode cX5_exchanges 27 = .ok (.iconst 1, 1) := dk_4 (dk_at dksX5_exchanges_1 3 rfl rfl)
theorem dX5_exchanges_28 : decode cX5_exchanges 28 = .ok (.aload_n 0, 1) := dk_42 (dk_at dksX5_exchanges_1 4 rfl rfl)
theorem dX5_exchanges_29 : decode cX5_exchanges 29 = .ok (.getfield 89, 3) := dk_180 0 89 (dk_at dksX5_exchanges_1 5 rfl rfl)
theorem dX5_exchanges_32 : decode cX5_exchanges 32 = .ok (.ishl, 1) := dk_120 (dk_at dksX5_exchanges_1 8 rfl rfl)
theorem dX5_exchanges_33 : decode cX5_exchanges 33 = .ok (.iconst 1, 1) := dk_4 (dk_at dksX5_exchanges_1 9 rfl rfl)
theorem dX5_exchanges_34 : decode cX5_exchanges 34 = .ok (.isub, 1) := dk_100 (dk_at dksX5_exchanges_1 10 rfl rfl)
theorem dX5_exchanges_35 : decode cX5_exchanges 35 = .ok (.invokevirtual 240, 3) := dk_182 0 240 (dk_at dksX5_exchanges_1 11 rfl rfl)
theorem dX5_exchanges_38 : decode cX5_exchanges 38 = .ok (.istore 4, 2) := dk_54 4 (dk_at dksX5_exchanges_1 14 rfl rfl)
theorem dX5_exchanges_40 : decode cX5_exchanges 40 = .ok (.aload_n 0, 1) := dk_42 (dk_at dksX5_exchanges_1 16 rfl rfl)
theorem dX5_exchanges_41 : decode cX5_exchanges 41 = .ok (.getfield 19, 3) := dk_180 0 19 (dk_at dksX5_exchanges_1 17 rfl rfl)
theorem dX5_exchanges_44 : decode cX5_exchanges 44 = .ok (.iload_n 2, 1) := dk_28 (dk_at dksX5_exchanges_1 20 rfl rfl)
theorem dX5_exchanges_45 : decode cX5_exchanges 45 = .ok (.aload_n 0, 1) := dk_42 (dk_at dksX5_exchanges_1 21 rfl rfl)
theorem dX5_exchanges_46 : decode cX5_exchanges 46 = .ok (.getfield 19, 3) := dk_180 0 19 (dk_at dksX5_exchanges_2 0 rfl rfl)
theorem dX5_exchanges_49 : decode cX5_exchanges 49 = .ok (.iload_n 1, 1) := dk_27 (dk_at dksX5_exchanges_2 3 rfl rfl)
theorem dX5_exchanges_50 : decode cX5_exchanges 50 = .ok (.iaload, 1) := dk_46 (dk_at dksX5_exchanges_2 4 rfl rfl)
theorem dX5_exchanges_51 : decode cX5_exchanges 51 = .ok (.iastore, 1) := dk_79 (dk_at dksX5_exchanges_2 5 rfl rfl)
theorem dX5_exchanges_52 : decode cX5_exchanges 52 = .ok (.aload_n 0, 1) := dk_42 (dk_at dksX5_exchanges_2 6 rfl rfl)
theorem dX5_exchanges_53 : decode cX5_exchanges 53 = .ok (.getfield 19, 3) := dk_180 0 19 (dk_at dksX5_exchanges_2 7 rfl rfl)
theorem dX5_exchanges_56 : decode cX5_exchanges 56 = .ok (.iload_n 1, 1) := dk_27 (dk_at dksX5_exchanges_2 10 rfl rfl)
theorem dX5_exchanges_57 : decode cX5_exchanges 57 = .ok (.iload_n 3, 1) := dk_29 (dk_at dksX5_exchanges_2 11 rfl rfl)
theorem dX5_exchanges_58 : decode cX5_exchanges 58 = .ok (.iastore, 1) := dk_79 (dk_at dksX5_exchanges_2 12 rfl rfl)
theorem dX5_exchanges_59 : decode cX5_exchanges 59 = .ok (.iload 4, 2) := dk_21 4 (dk_at dksX5_exchanges_2 13 rfl rfl)
theorem dX5_exchanges_61 : decode cX5_exchanges 61 = .ok (.ireturn, 1) := dk_172 (dk_at dksX5_exchanges_2 15 rfl rfl)
abbrev cX5_bestPair : ByteArray := prog_17_method_72_code
def yX5_bestPair : MethodName := ⟨RX5, "bestPair", "()I"⟩
def dkwX5_bestPair_3 : List UInt8 := [172]
abbrev dktX5_bestPair_3 : List UInt8 := dkwX5_bestPair_3 ++ []
def dkwX5_bestPair_2 : List UInt8 := [21, 5, 61, 16, 10, 29, 104, 21, 4, 96, 60, 132, 4, 1, 167, 255, 215, 132, 3, 1, 167, 255, 196, 27]
abbrev dktX5_bestPair_2 : List UInt8 := dkwX5_bestPair_2 ++ dktX5_bestPair_3
def dkwX5_bestPair_1 : List UInt8 := [180, 0, 89, 162, 0, 38, 42, 29, 21, 4, 182, 1, 13, 54, 5, 21, 5, 28, 163, 0, 6, 167, 0, 14]
abbrev dktX5_bestPair_1 : List UInt8 := dkwX5_bestPair_1 ++ dktX5_bestPair_2
def dkwX5_bestPair_0 : List UInt8 := [2, 60, 2, 61, 3, 62, 29, 42, 180, 0, 89, 162, 0, 58, 29, 4, 96, 54, 4, 21, 4, 42]
abbrev dktX5_bestPair_0 : List UInt8 := dkwX5_bestPair_0 ++ dktX5_bestPair_1
theorem dksX5_bestPair_0 : cX5_bestPair.data.toList.drop 0 = dktX5_bestPair_0 := by decide +kernel
theorem dksX5_bestPair_1 : cX5_bestPair.data.toList.drop 22 = dktX5_bestPair_1 := dk_seg dksX5_bestPair_0 22 rfl rfl
theorem dksX5_bestPair_2 : cX5_bestPair.data.toList.drop 46 = dktX5_bestPair_2 := dk_seg dksX5_bestPair_1 24 rfl rfl
theorem dksX5_bestPair_3 : cX5_bestPair.data.toList.drop 70 = dktX5_bestPair_3 := dk_seg dksX5_bestPair_2 24 rfl rfl
theorem dX5_bestPair_0 : decode cX5_bestPair 0 = .ok (.iconst (-1), 1) := dk_2 (dk_at dksX5_bestPair_0 0 rfl rfl)
theorem dX5_bestPair_1 : decode cX5_bestPair 1 = .ok (.istore_n 1, 1) := dk_60 (dk_at dksX5_bestPair_0 1 rfl rfl)
theorem dX5_bestPair_2 : decode cX5_bestPair 2 = .ok (.iconst (-1), 1) := dk_2 (dk_at dksX5_bestPair_0 2 rfl rfl)
theorem dX5_bestPair_3 : decode cX5_bestPair 3 = .ok (.istore_n 2, 1) := dk_61 (dk_at dksX5_bestPair_0 3 rfl rfl)
theorem dX5_bestPair_4 : decode cX5_bestPair 4 = .ok (.iconst 0, 1) := dk_3 (dk_at dksX5_bestPair_0 4 rfl rfl)
theorem dX5_bestPair_5 : decode cX5_bestPair 5 = .ok (.istore_n 3, 1) := dk_62 (dk_at dksX5_bestPair_0 5 rfl rfl)
theorem dX5_bestPair_6 : decode cX5_bestPair 6 = .ok (.iload_n 3, 1) := dk_29 (dk_at dksX5_bestPair_0 6 rfl rfl)
theorem dX5_bestPair_7 : decode cX5_bestPair 7 = .ok (.aload_n 0, 1) := dk_42 (dk_at dksX5_bestPair_0 7 rfl rfl)
theorem dX5_bestPair_8 : decode cX5_bestPair 8 = .ok (.getfield 89, 3) := dk_180 0 89 (dk_at dksX5_bestPair_0 8 rfl rfl)
theorem dX5_bestPair_11 : decode cX5_bestPair 11 = .ok (.if_icmp .ge 58, 3) := dk_162 0 58 (dk_at dksX5_bestPair_0 11 rfl rfl)
theorem dX5_bestPair_14 : decode cX5_bestPair 14 = .ok (.iload_n 3, 1) := dk_29 (dk_at dksX5_bestPair_0 14 rfl rfl)
theorem dX5_bestPair_15 : decode cX5_bestPair 15 = .ok (.iconst 1, 1) := dk_4 (dk_at dksX5_bestPair_0 15 rfl rfl)
theorem dX5_bestPair_16 : decode cX5_bestPair 16 = .ok (.iadd, 1) := dk_96 (dk_at dksX5_bestPair_0 16 rfl rfl)
theorem dX5_bestPair_17 : decode cX5_bestPair 17 = .ok (.istore 4, 2) := dk_54 4 (dk_at dksX5_bestPair_0 17 rfl rfl)
theorem dX5_bestPair_19 : decode cX5_bestPair 19 = .ok (.iload 4, 2) := dk_21 4 (dk_at dksX5_bestPair_0 19 rfl rfl)
theorem dX5_bestPair_21 : decode cX5_bestPair 21 = .ok (.aload_n 0, 1) := dk_42 (dk_at dksX5_bestPair_0 21 rfl rfl)
theorem dX5_bestPair_22 : decode cX5_bestPair 22 = .ok (.getfield 89, 3) := dk_180 0 89 (dk_at dksX5_bestPair_1 0 rfl rfl)
theorem dX5_bestPair_25 : decode cX5_bestPair 25 = .ok (.if_icmp .ge 38, 3) := dk_162 0 38 (dk_at dksX5_bestPair_1 3 rfl rfl)
theorem dX5_bestPair_28 : decode cX5_bestPair 28 = .ok (.aload_n 0, 1) := dk_42 (dk_at dksX5_bestPair_1 6 rfl rfl)
theorem dX5_bestPair_29 : decode cX5_bestPair 29 = .ok (.iload_n 3, 1) := dk_29 (dk_at dksX5_bestPair_1 7 rfl rfl)
theorem dX5_bestPair_30 : decode cX5_bestPair 30 = .ok (.iload 4, 2) := dk_21 4 (dk_at dksX5_bestPair_1 8 rfl rfl)
theorem dX5_bestPair_32 : decode cX5_bestPair 32 = .ok (.invokevirtual 269, 3) := dk_182 1 13 (dk_at dksX5_bestPair_1 10 rfl rfl)
theorem dX5_bestPair_35 : decode cX5_bestPair 35 = .ok (.istore 5, 2) := dk_54 5 (dk_at dksX5_bestPair_1 13 rfl rfl)
theorem dX5_bestPair_37 : decode cX5_bestPair 37 = .ok (.iload 5, 2) := dk_21 5 (dk_at dksX5_bestPair_1 15 rfl rfl)
theorem dX5_bestPair_39 : decode cX5_bestPair 39 = .ok (.iload_n 2, 1) := dk_28 (dk_at dksX5_bestPair_1 17 rfl rfl)
theorem dX5_bestPair_40 : decode cX5_bestPair 40 = .ok (.if_icmp .gt 6, 3) := dk_163 0 6 (dk_at dksX5_bestPair_1 18 rfl rfl)
theorem dX5_bestPair_43 : decode cX5_bestPair 43 = .ok (.goto 14, 3) := dk_167 0 14 (dk_at dksX5_bestPair_1 21 rfl rfl)
theorem dX5_bestPair_46 : decode cX5_bestPair 46 = .ok (.iload 5, 2) := dk_21 5 (dk_at dksX5_bestPair_2 0 rfl rfl)
theorem dX5_bestPair_48 : decode cX5_bestPair 48 = .ok (.istore_n 2, 1) := dk_61 (dk_at dksX5_bestPair_2 2 rfl rfl)
theorem dX5_bestPair_49 : decode cX5_bestPair 49 = .ok (.bipush 10, 2) := dk_16 10 (dk_at dksX5_bestPair_2 3 rfl rfl)
theorem dX5_bestPair_51 : decode cX5_bestPair 51 = .ok (.iload_n 3, 1) := dk_29 (dk_at dksX5_bestPair_2 5 rfl rfl)
theorem dX5_bestPair_52 : decode cX5_bestPair 52 = .ok (.imul, 1) := dk_104 (dk_at dksX5_bestPair_2 6 rfl rfl)
theorem dX5_bestPair_53 : decode cX5_bestPair 53 = .ok (.iload 4, 2) := dk_21 4 (dk_at dksX5_bestPair_2 7 rfl rfl)
theorem dX5_bestPair_55 : decode cX5_bestPair 55 = .ok (.iadd, 1) := dk_96 (dk_at dksX5_bestPair_2 9 rfl rfl)
theorem dX5_bestPair_56 : decode cX5_bestPair 56 = .ok (.istore_n 1, 1) := dk_60 (dk_at dksX5_bestPair_2 10 rfl rfl)
theorem dX5_bestPair_57 : decode cX5_bestPair 57 = .ok (.iinc 4 1, 3) := dk_132 4 1 (dk_at dksX5_bestPair_2 11 rfl rfl)
theorem dX5_bestPair_60 : decode cX5_bestPair 60 = .ok (.goto (-41), 3) := dk_167 255 215 (dk_at dksX5_bestPair_2 14 rfl rfl)
theorem dX5_bestPair_63 : decode cX5_bestPair 63 = .ok (.iinc 3 1, 3) := dk_132 3 1 (dk_at dksX5_bestPair_2 17 rfl rfl)
theorem dX5_bestPair_66 : decode cX5_bestPair 66 = .ok (.goto (-60), 3) := dk_167 255 196 (dk_at dksX5_bestPair_2 20 rfl rfl)
theorem dX5_bestPair_69 : decode cX5_bestPair 69 = .ok (.iload_n 1, 1) := dk_27 (dk_at dksX5_bestPair_2 23 rfl rfl)
theorem dX5_bestPair_70 : decode cX5_bestPair 70 = .ok (.ireturn, 1) := dk_172 (dk_at dksX5_bestPair_3 0 rfl rfl)
abbrev cX5_gladOnes : ByteArray := prog_17_method_73_code
def yX5_gladOnes : MethodName := ⟨RX5, "gladOnes", "(I)I"⟩
def dkwX5_gladOnes_2 : List UInt8 := [28, 4, 29, 120, 128, 61, 132, 3, 1, 167, 255, 223, 28, 172]
abbrev dktX5_gladOnes_2 : List UInt8 := dkwX5_gladOnes_2 ++ []
def dkwX5_gladOnes_1 : List UInt8 := [29, 42, 180, 0, 89, 162, 0, 31, 27, 29, 184, 0, 194, 153, 0, 17, 42, 29, 182, 0, 231, 153, 0, 9]
abbrev dktX5_gladOnes_1 : List UInt8 := dkwX5_gladOnes_1 ++ dktX5_gladOnes_2
def dkwX5_gladOnes_0 : List UInt8 := [42, 27, 182, 0, 234, 154, 0, 10, 42, 16, 254, 182, 0, 96, 172, 42, 27, 182, 0, 117, 3, 61, 3, 62]
abbrev dktX5_gladOnes_0 : List UInt8 := dkwX5_gladOnes_0 ++ dktX5_gladOnes_1
theorem dksX5_gladOnes_0 : cX5_gladOnes.data.toList.drop 0 = dktX5_gladOnes_0 := by decide +kernel
theorem dksX5_gladOnes_1 : cX5_gladOnes.data.toList.drop 24 = dktX5_gladOnes_1 := dk_seg dksX5_gladOnes_0 24 rfl rfl
theorem dksX5_gladOnes_2 : cX5_gladOnes.data.toList.drop 48 = dktX5_gladOnes_2 := dk_seg dksX5_gladOnes_1 24 rfl rfl
theorem dX5_gladOnes_0 : decode cX5_gladOnes 0 = .ok (.aload_n 0, 1) := dk_42 (dk_at dksX5_gladOnes_0 0 rfl rfl)
theorem dX5_gladOnes_1 : decode cX5_gladOnes 1 = .ok (.iload_n 1, 1) := dk_27 (dk_at dksX5_gladOnes_0 1 rfl rfl)
theorem dX5_gladOnes_2 : decode cX5_gladOnes 2 = .ok (.invokevirtual 234, 3) := dk_182 0 234 (dk_at dksX5_gladOnes_0 2 rfl rfl)
theorem dX5_gladOnes_5 : decode cX5_gladOnes 5 = .ok (.ifCond .ne 10, 3) := dk_154 0 10 (dk_at dksX5_gladOnes_0 5 rfl rfl)
theorem dX5_gladOnes_8 : decode cX5_gladOnes 8 = .ok (.aload_n 0, 1) := dk_42 (dk_at dksX5_gladOnes_0 8 rfl rfl)
theorem dX5_gladOnes_9 : decode cX5_gladOnes 9 = .ok (.bipush (-2), 2) := dk_16 254 (dk_at dksX5_gladOnes_0 9 rfl rfl)
theorem dX5_gladOnes_11 : decode cX5_gladOnes 11 = .ok (.invokevirtual 96, 3) := dk_182 0 96 (dk_at dksX5_gladOnes_0 11 rfl rfl)
theorem dX5_gladOnes_14 : decode cX5_gladOnes 14 = .ok (.ireturn, 1) := dk_172 (dk_at dksX5_gladOnes_0 14 rfl rfl)
theorem dX5_gladOnes_15 : decode cX5_gladOnes 15 = .ok (.aload_n 0, 1) := dk_42 (dk_at dksX5_gladOnes_0 15 rfl rfl)
theorem dX5_gladOnes_16 : decode cX5_gladOnes 16 = .ok (.iload_n 1, 1) := dk_27 (dk_at dksX5_gladOnes_0 16 rfl rfl)
theorem dX5_gladOnes_17 : decode cX5_gladOnes 17 = .ok (.invokevirtual 117, 3) := dk_182 0 117 (dk_at dksX5_gladOnes_0 17 rfl rfl)
theorem dX5_gladOnes_20 : decode cX5_gladOnes 20 = .ok (.iconst 0, 1) := dk_3 (dk_at dksX5_gladOnes_0 20 rfl rfl)
theorem dX5_gladOnes_21 : decode cX5_gladOnes 21 = .ok (.istore_n 2, 1) := dk_61 (dk_at dksX5_gladOnes_0 21 rfl rfl)
theorem dX5_gladOnes_22 : decode cX5_gladOnes 22 = .ok (.iconst 0, 1) := dk_3 (dk_at dksX5_gladOnes_0 22 rfl rfl)
theorem dX5_gladOnes_23 : decode cX5_gladOnes 23 = .ok (.istore_n 3, 1) := dk_62 (dk_at dksX5_gladOnes_0 23 rfl rfl)
theorem dX5_gladOnes_24 : decode cX5_gladOnes 24 = .ok (.iload_n 3, 1) := dk_29 (dk_at dksX5_gladOnes_1 0 rfl rfl)
theorem dX5_gladOnes_25 : decode cX5_gladOnes 25 = .ok (.aload_n 0, 1) := dk_42 (dk_at dksX5_gladOnes_1 1 rfl rfl)
theorem dX5_gladOnes_26 : decode cX5_gladOnes 26 = .ok (.getfield 89, 3) := dk_180 0 89 (dk_at dksX5_gladOnes_1 2 rfl rfl)
theorem dX5_gladOnes_29 : decode cX5_gladOnes 29 = .ok (.if_icmp .ge 31, 3) := dk_162 0 31 (dk_at dksX5_gladOnes_1 5 rfl rfl)
theorem dX5_gladOnes_32 : decode cX5_gladOnes 32 = .ok (.iload_n 1, 1) := dk_27 (dk_at dksX5_gladOnes_1 8 rfl rfl)
theorem dX5_gladOnes_33 : decode cX5_gladOnes 33 = .ok (.iload_n 3, 1) := dk_29 (dk_at dksX5_gladOnes_1 9 rfl rfl)
theorem dX5_gladOnes_34 : decode cX5_gladOnes 34 = .ok (.invokestatic 194, 3) := dk_184 0 194 (dk_at dksX5_gladOnes_1 10 rfl rfl)
theorem dX5_gladOnes_37 : decode cX5_gladOnes 37 = .ok (.ifCond .eq 17, 3) := dk_153 0 17 (dk_at dksX5_gladOnes_1 13 rfl rfl)
theorem dX5_gladOnes_40 : decode cX5_gladOnes 40 = .ok (.aload_n 0, 1) := dk_42 (dk_at dksX5_gladOnes_1 16 rfl rfl)
theorem dX5_gladOnes_41 : decode cX5_gladOnes 41 = .ok (.iload_n 3, 1) := dk_29 (dk_at dksX5_gladOnes_1 17 rfl rfl)
theorem dX5_gladOnes_42 : decode cX5_gladOnes 42 = .ok (.invokevirtual 231, 3) := dk_182 0 231 (dk_at dksX5_gladOnes_1 18 rfl rfl)
theorem dX5_gladOnes_45 : decode cX5_gladOnes 45 = .ok (.ifCond .eq 9, 3) := dk_153 0 9 (dk_at dksX5_gladOnes_1 21 rfl rfl)
theorem dX5_gladOnes_48 : decode cX5_gladOnes 48 = .ok (.iload_n 2, 1) := dk_28 (dk_at dksX5_gladOnes_2 0 rfl rfl)
theorem dX5_gladOnes_49 : decode cX5_gladOnes 49 = .ok (.iconst 1, 1) := dk_4 (dk_at dksX5_gladOnes_2 1 rfl rfl)
theorem dX5_gladOnes_50 : decode cX5_gladOnes 50 = .ok (.iload_n 3, 1) := dk_29 (dk_at dksX5_gladOnes_2 2 rfl rfl)
theorem dX5_gladOnes_51 : decode cX5_gladOnes 51 = .ok (.ishl, 1) := dk_120 (dk_at dksX5_gladOnes_2 3 rfl rfl)
theorem dX5_gladOnes_52 : decode cX5_gladOnes 52 = .ok (.ior, 1) := dk_128 (dk_at dksX5_gladOnes_2 4 rfl rfl)
theorem dX5_gladOnes_53 : decode cX5_gladOnes 53 = .ok (.istore_n 2, 1) := dk_61 (dk_at dksX5_gladOnes_2 5 rfl rfl)
theorem dX5_gladOnes_54 : decode cX5_gladOnes 54 = .ok (.iinc 3 1, 3) := dk_132 3 1 (dk_at dksX5_gladOnes_2 6 rfl rfl)
theorem dX5_gladOnes_57 : decode cX5_gladOnes 57 = .ok (.goto (-33), 3) := dk_167 255 223 (dk_at dksX5_gladOnes_2 9 rfl rfl)
theorem dX5_gladOnes_60 : decode cX5_gladOnes 60 = .ok (.iload_n 2, 1) := dk_28 (dk_at dksX5_gladOnes_2 12 rfl rfl)
theorem dX5_gladOnes_61 : decode cX5_gladOnes 61 = .ok (.ireturn, 1) := dk_172 (dk_at dksX5_gladOnes_2 13 rfl rfl)
abbrev cX5_oldest : ByteArray := prog_17_method_74_code
def yX5_oldest : MethodName := ⟨RX5, "oldest", "(I)I"⟩
def dkwX5_oldest_3 : List UInt8 := [180, 0, 19, 27, 28, 79, 29, 172]
abbrev dktX5_oldest_3 : List UInt8 := dkwX5_oldest_3 ++ []
def dkwX5_oldest_2 : List UInt8 := [120, 4, 100, 182, 0, 117, 42, 27, 182, 0, 231, 153, 0, 6, 21, 4, 62, 132, 4, 1, 167, 255, 215, 42]
abbrev dktX5_oldest_2 : List UInt8 := dkwX5_oldest_2 ++ dktX5_oldest_3
def dkwX5_oldest_1 : List UInt8 := [3, 54, 4, 21, 4, 16, 100, 162, 0, 40, 42, 180, 0, 19, 27, 21, 4, 79, 42, 4, 42, 180, 0, 89]
abbrev dktX5_oldest_1 : List UInt8 := dkwX5_oldest_1 ++ dktX5_oldest_2
def dkwX5_oldest_0 : List UInt8 := [42, 27, 182, 0, 110, 154, 0, 10, 42, 16, 254, 182, 0, 96, 172, 42, 180, 0, 19, 27, 46, 61, 2, 62]
abbrev dktX5_oldest_0 : List UInt8 := dkwX5_oldest_0 ++ dktX5_oldest_1
theorem dksX5_oldest_0 : cX5_oldest.data.toList.drop 0 = dktX5_oldest_0 := by decide +kernel
theorem dksX5_oldest_1 : cX5_oldest.data.toList.drop 24 = dktX5_oldest_1 := dk_seg dksX5_oldest_0 24 rfl rfl
theorem dksX5_oldest_2 : cX5_oldest.data.toList.drop 48 = dktX5_oldest_2 := dk_seg dksX5_oldest_1 24 rfl rfl
theorem dksX5_oldest_3 : cX5_oldest.data.toList.drop 72 = dktX5_oldest_3 := dk_seg dksX5_oldest_2 24 rfl rfl
theorem dX5_oldest_0 : decode cX5_oldest 0 = .ok (.aload_n 0, 1) := dk_42 (dk_at dksX5_oldest_0 0 rfl rfl)
theorem dX5_oldest_1 : decode cX5_oldest 1 = .ok (.iload_n 1, 1) := dk_27 (dk_at dksX5_oldest_0 1 rfl rfl)
theorem dX5_oldest_2 : decode cX5_oldest 2 = .ok (.invokevirtual 110, 3) := dk_182 0 110 (dk_at dksX5_oldest_0 2 rfl rfl)
theorem dX5_oldest_5 : decode cX5_oldest 5 = .ok (.ifCond .ne 10, 3) := dk_154 0 10 (dk_at dksX5_oldest_0 5 rfl rfl)
theorem dX5_oldest_8 : decode cX5_oldest 8 = .ok (.aload_n 0, 1) := dk_42 (dk_at dksX5_oldest_0 8 rfl rfl)
theorem dX5_oldest_9 : decode cX5_oldest 9 = .ok (.bipush (-2), 2) := dk_16 254 (dk_at dksX5_oldest_0 9 rfl rfl)
theorem dX5_oldest_11 : decode cX5_oldest 11 = .ok (.invokevirtual 96, 3) := dk_182 0 96 (dk_at dksX5_oldest_0 11 rfl rfl)
theorem dX5_oldest_14 : decode cX5_oldest 14 = .ok (.ireturn, 1) := dk_172 (dk_at dksX5_oldest_0 14 rfl rfl)
theorem dX5_oldest_15 : decode cX5_oldest 15 = .ok (.aload_n 0, 1) := dk_42 (dk_at dksX5_oldest_0 15 rfl rfl)
theorem dX5_oldest_16 : decode cX5_oldest 16 = .ok (.getfield 19, 3) := dk_180 0 19 (dk_at dksX5_oldest_0 16 rfl rfl)
theorem dX5_oldest_19 : decode cX5_oldest 19 = .ok (.iload_n 1, 1) := dk_27 (dk_at dksX5_oldest_0 19 rfl rfl)
theorem dX5_oldest_20 : decode cX5_oldest 20 = .ok (.iaload, 1) := dk_46 (dk_at dksX5_oldest_0 20 rfl rfl)
theorem dX5_oldest_21 : decode cX5_oldest 21 = .ok (.istore_n 2, 1) := dk_61 (dk_at dksX5_oldest_0 21 rfl rfl)
theorem dX5_oldest_22 : decode cX5_oldest 22 = .ok (.iconst (-1), 1) := dk_2 (dk_at dksX5_oldest_0 22 rfl rfl)
theorem dX5_oldest_23 : decode cX5_oldest 23 = .ok (.istore_n 3, 1) := dk_62 (dk_at dksX5_oldest_0 23 rfl rfl)
theorem dX5_oldest_24 : decode cX5_oldest 24 = .ok (.iconst 0, 1) := dk_3 (dk_at dksX5_oldest_1 0 rfl rfl)
theorem dX5_oldest_25 : decode cX5_oldest 25 = .ok (.istore 4, 2) := dk_54 4 (dk_at dksX5_oldest_1 1 rfl rfl)
theorem dX5_oldest_27 : decode cX5_oldest 27 = .ok (.iload 4, 2) := dk_21 4 (dk_at dksX5_oldest_1 3 rfl rfl)
theorem dX5_oldest_29 : decode cX5_oldest 29 = .ok (.bipush 100, 2) := dk_16 100 (dk_at dksX5_oldest_1 5 rfl rfl)
theorem dX5_oldest_31 : decode cX5_oldest 31 = .ok (.if_icmp .ge 40, 3) := dk_162 0 40 (dk_at dksX5_oldest_1 7 rfl rfl)
theorem dX5_oldest_34 : decode cX5_oldest 34 = .ok (.aload_n 0, 1) := dk_42 (dk_at dksX5_oldest_1 10 rfl rfl)
theorem dX5_oldest_35 : decode cX5_oldest 35 = .ok (.getfield 19, 3) := dk_180 0 19 (dk_at dksX5_oldest_1 11 rfl rfl)
theorem dX5_oldest_38 : decode cX5_oldest 38 = .ok (.iload_n 1, 1) := dk_27 (dk_at dksX5_oldest_1 14 rfl rfl)
theorem dX5_oldest_39 : decode cX5_oldest 39 = .ok (.iload 4, 2) := dk_21 4 (dk_at dksX5_oldest_1 15 rfl rfl)
theorem dX5_oldest_41 : decode cX5_oldest 41 = .ok (.iastore, 1) := dk_79 (dk_at dksX5_oldest_1 17 rfl rfl)
theorem dX5_oldest_42 : decode cX5_oldest 42 = .ok (.aload_n 0, 1) := dk_42 (dk_at dksX5_oldest_1 18 rfl rfl)
theorem dX5_oldest_43 : decode cX5_oldest 43 = .ok (.iconst 1, 1) := dk_4 (dk_at dksX5_oldest_1 19 rfl rfl)
theorem dX5_oldest_44 : decode cX5_oldest 44 = .ok (.aload_n 0, 1) := dk_42 (dk_at dksX5_oldest_1 20 rfl rfl)
theorem dX5_oldest_45 : decode cX5_oldest 45 = .ok (.getfield 89, 3) := dk_180 0 89 (dk_at dksX5_oldest_1 21 rfl rfl)
theorem dX5_oldest_48 : decode cX5_oldest 48 = .ok (.ishl, 1) := dk_120 (dk_at dksX5_oldest_2 0 rfl rfl)
theorem dX5_oldest_49 : decode cX5_oldest 49 = .ok (.iconst 1, 1) := dk_4 (dk_at dksX5_oldest_2 1 rfl rfl)
theorem dX5_oldest_50 : decode cX5_oldest 50 = .ok (.isub, 1) := dk_100 (dk_at dksX5_oldest_2 2 rfl rfl)
theorem dX5_oldest_51 : decode cX5_oldest 51 = .ok (.invokevirtual 117, 3) := dk_182 0 117 (dk_at dksX5_oldest_2 3 rfl rfl)
theorem dX5_oldest_54 : decode cX5_oldest 54 = .ok (.aload_n 0, 1) := dk_42 (dk_at dksX5_oldest_2 6 rfl rfl)
theorem dX5_oldest_55 : decode cX5_oldest 55 = .ok (.iload_n 1, 1) := dk_27 (dk_at dksX5_oldest_2 7 rfl rfl)
theorem dX5_oldest_56 : decode cX5_oldest 56 = .ok (.invokevirtual 231, 3) := dk_182 0 231 (dk_at dksX5_oldest_2 8 rfl rfl)
theorem dX5_oldest_59 : decode cX5_oldest 59 = .ok (.ifCond .eq 6, 3) := dk_153 0 6 (dk_at dksX5_oldest_2 11 rfl rfl)
theorem dX5_oldest_62 : decode cX5_oldest 62 = .ok (.iload 4, 2) := dk_21 4 (dk_at dksX5_oldest_2 14 rfl rfl)
theorem dX5_oldest_64 : decode cX5_oldest 64 = .ok (.istore_n 3, 1) := dk_62 (dk_at dksX5_oldest_2 16 rfl rfl)
theorem dX5_oldest_65 : decode cX5_oldest 65 = .ok (.iinc 4 1, 3) := dk_132 4 1 (dk_at dksX5_oldest_2 17 rfl rfl)
theorem dX5_oldest_68 : decode cX5_oldest 68 = .ok (.goto (-41), 3) := dk_167 255 215 (dk_at dksX5_oldest_2 20 rfl rfl)
theorem dX5_oldest_71 : decode cX5_oldest 71 = .ok (.aload_n 0, 1) := dk_42 (dk_at dksX5_oldest_2 23 rfl rfl)
theorem dX5_oldest_72 : decode cX5_oldest 72 = .ok (.getfield 19, 3) := dk_180 0 19 (dk_at dksX5_oldest_3 0 rfl rfl)
theorem dX5_oldest_75 : decode cX5_oldest 75 = .ok (.iload_n 1, 1) := dk_27 (dk_at dksX5_oldest_3 3 rfl rfl)
theorem dX5_oldest_76 : decode cX5_oldest 76 = .ok (.iload_n 2, 1) := dk_28 (dk_at dksX5_oldest_3 4 rfl rfl)
theorem dX5_oldest_77 : decode cX5_oldest 77 = .ok (.iastore, 1) := dk_79 (dk_at dksX5_oldest_3 5 rfl rfl)
theorem dX5_oldest_78 : decode cX5_oldest 78 = .ok (.iload_n 3, 1) := dk_29 (dk_at dksX5_oldest_3 6 rfl rfl)
theorem dX5_oldest_79 : decode cX5_oldest 79 = .ok (.ireturn, 1) := dk_172 (dk_at dksX5_oldest_3 7 rfl rfl)
abbrev cX5_twice : ByteArray := prog_17_method_75_code
def yX5_twice : MethodName := ⟨RX5, "twice", "(II)I"⟩
def dkwX5_twice_3 : List UInt8 := [46, 182, 0, 228, 132, 3, 1, 167, 255, 235, 42, 182, 0, 237, 172]
abbrev dktX5_twice_3 : List UInt8 := dkwX5_twice_3 ++ []
def dkwX5_twice_2 : List UInt8 := [167, 255, 240, 42, 28, 182, 0, 222, 3, 62, 29, 42, 180, 0, 219, 162, 0, 19, 42, 42, 180, 0, 59, 29]
abbrev dktX5_twice_2 : List UInt8 := dkwX5_twice_2 ++ dktX5_twice_3
def dkwX5_twice_1 : List UInt8 := [27, 182, 0, 117, 3, 62, 29, 16, 8, 162, 0, 16, 42, 180, 0, 62, 29, 3, 79, 132, 3, 1]
abbrev dktX5_twice_1 : List UInt8 := dkwX5_twice_1 ++ dktX5_twice_2
def dkwX5_twice_0 : List UInt8 := [42, 27, 182, 0, 234, 153, 0, 11, 42, 28, 182, 0, 234, 154, 0, 10, 42, 16, 254, 182, 0, 96, 172, 42]
abbrev dktX5_twice_0 : List UInt8 := dkwX5_twice_0 ++ dktX5_twice_1
theorem dksX5_twice_0 : cX5_twice.data.toList.drop 0 = dktX5_twice_0 := by decide +kernel
theorem dksX5_twice_1 : cX5_twice.data.toList.drop 24 = dktX5_twice_1 := dk_seg dksX5_twice_0 24 rfl rfl
theorem dksX5_twice_2 : cX5_twice.data.toList.drop 46 = dktX5_twice_2 := dk_seg dksX5_twice_1 22 rfl rfl
theorem dksX5_twice_3 : cX5_twice.data.toList.drop 70 = dktX5_twice_3 := dk_seg dksX5_twice_2 24 rfl rfl
theorem dX5_twice_0 : decode cX5_twice 0 = .ok (.aload_n 0, 1) := dk_42 (dk_at dksX5_twice_0 0 rfl rfl)
theorem dX5_twice_1 : decode cX5_twice 1 = .ok (.iload_n 1, 1) := dk_27 (dk_at dksX5_twice_0 1 rfl rfl)
theorem dX5_twice_2 : decode cX5_twice 2 = .ok (.invokevirtual 234, 3) := dk_182 0 234 (dk_at dksX5_twice_0 2 rfl rfl)
theorem dX5_twice_5 : decode cX5_twice 5 = .ok (.ifCond .eq 11, 3) := dk_153 0 11 (dk_at dksX5_twice_0 5 rfl rfl)
theorem dX5_twice_8 : decode cX5_twice 8 = .ok (.aload_n 0, 1) := dk_42 (dk_at dksX5_twice_0 8 rfl rfl)
theorem dX5_twice_9 : decode cX5_twice 9 = .ok (.iload_n 2, 1) := dk_28 (dk_at dksX5_twice_0 9 rfl rfl)
theorem dX5_twice_10 : decode cX5_twice 10 = .ok (.invokevirtual 234, 3) := dk_182 0 234 (dk_at dksX5_twice_0 10 rfl rfl)
theorem dX5_twice_13 : decode cX5_twice 13 = .ok (.ifCond .ne 10, 3) := dk_154 0 10 (dk_at dksX5_twice_0 13 rfl rfl)
theorem dX5_twice_16 : decode cX5_twice 16 = .ok (.aload_n 0, 1) := dk_42 (dk_at dksX5_twice_0 16 rfl rfl)
theorem dX5_twice_17 : decode cX5_twice 17 = .ok (.bipush (-2), 2) := dk_16 254 (dk_at dksX5_twice_0 17 rfl rfl)
theorem dX5_twice_19 : decode cX5_twice 19 = .ok (.invokevirtual 96, 3) := dk_182 0 96 (dk_at dksX5_twice_0 19 rfl rfl)
theorem dX5_twice_22 : decode cX5_twice 22 = .ok (.ireturn, 1) := dk_172 (dk_at dksX5_twice_0 22 rfl rfl)
theorem dX5_twice_23 : decode cX5_twice 23 = .ok (.aload_n 0, 1) := dk_42 (dk_at dksX5_twice_0 23 rfl rfl)
theorem dX5_twice_24 : decode cX5_twice 24 = .ok (.iload_n 1, 1) := dk_27 (dk_at dksX5_twice_1 0 rfl rfl)
theorem dX5_twice_25 : decode cX5_twice 25 = .ok (.invokevirtual 117, 3) := dk_182 0 117 (dk_at dksX5_twice_1 1 rfl rfl)
theorem dX5_twice_28 : decode cX5_twice 28 = .ok (.iconst 0, 1) := dk_3 (dk_at dksX5_twice_1 4 rfl rfl)
theorem dX5_twice_29 : decode cX5_twice 29 = .ok (.istore_n 3, 1) := dk_62 (dk_at dksX5_twice_1 5 rfl rfl)
theorem dX5_twice_30 : decode cX5_twice 30 = .ok (.iload_n 3, 1) := dk_29 (dk_at dksX5_twice_1 6 rfl rfl)
theorem dX5_twice_31 : decode cX5_twice 31 = .ok (.bipush 8, 2) := dk_16 8 (dk_at dksX5_twice_1 7 rfl rfl)
theorem dX5_twice_33 : decode cX5_twice 33 = .ok (.if_icmp .ge 16, 3) := dk_162 0 16 (dk_at dksX5_twice_1 9 rfl rfl)
theorem dX5_twice_36 : decode cX5_twice 36 = .ok (.aload_n 0, 1) := dk_42 (dk_at dksX5_twice_1 12 rfl rfl)
theorem dX5_twice_37 : decode cX5_twice 37 = .ok (.getfield 62, 3) := dk_180 0 62 (dk_at dksX5_twice_1 13 rfl rfl)
theorem dX5_twice_40 : decode cX5_twice 40 = .ok (.iload_n 3, 1) := dk_29 (dk_at dksX5_twice_1 16 rfl rfl)
theorem dX5_twice_41 : decode cX5_twice 41 = .ok (.iconst 0, 1) := dk_3 (dk_at dksX5_twice_1 17 rfl rfl)
theorem dX5_twice_42 : decode cX5_twice 42 = .ok (.iastore, 1) := dk_79 (dk_at dksX5_twice_1 18 rfl rfl)
theorem dX5_twice_43 : decode cX5_twice 43 = .ok (.iinc 3 1, 3) := dk_132 3 1 (dk_at dksX5_twice_1 19 rfl rfl)
theorem dX5_twice_46 : decode cX5_twice 46 = .ok (.goto (-16), 3) := dk_167 255 240 (dk_at dksX5_twice_2 0 rfl rfl)
theorem dX5_twice_49 : decode cX5_twice 49 = .ok (.aload_n 0, 1) := dk_42 (dk_at dksX5_twice_2 3 rfl rfl)
theorem dX5_twice_50 : decode cX5_twice 50 = .ok (.iload_n 2, 1) := dk_28 (dk_at dksX5_twice_2 4 rfl rfl)
theorem dX5_twice_51 : decode cX5_twice 51 = .ok (.invokevirtual 222, 3) := dk_182 0 222 (dk_at dksX5_twice_2 5 rfl rfl)
theorem dX5_twice_54 : decode cX5_twice 54 = .ok (.iconst 0, 1) := dk_3 (dk_at dksX5_twice_2 8 rfl rfl)
theorem dX5_twice_55 : decode cX5_twice 55 = .ok (.istore_n 3, 1) := dk_62 (dk_at dksX5_twice_2 9 rfl rfl)
theorem dX5_twice_56 : decode cX5_twice 56 = .ok (.iload_n 3, 1) := dk_29 (dk_at dksX5_twice_2 10 rfl rfl)
theorem dX5_twice_57 : decode cX5_twice 57 = .ok (.aload_n 0, 1) := dk_42 (dk_at dksX5_twice_2 11 rfl rfl)
theorem dX5_twice_58 : decode cX5_twice 58 = .ok (.getfield 219, 3) := dk_180 0 219 (dk_at dksX5_twice_2 12 rfl rfl)
theorem dX5_twice_61 : decode cX5_twice 61 = .ok (.if_icmp .ge 19, 3) := dk_162 0 19 (dk_at dksX5_twice_2 15 rfl rfl)
theorem dX5_twice_64 : decode cX5_twice 64 = .ok (.aload_n 0, 1) := dk_42 (dk_at dksX5_twice_2 18 rfl rfl)
theorem dX5_twice_65 : decode cX5_twice 65 = .ok (.aload_n 0, 1) := dk_42 (dk_at dksX5_twice_2 19 rfl rfl)
theorem dX5_twice_66 : decode cX5_twice 66 = .ok (.getfield 59, 3) := dk_180 0 59 (dk_at dksX5_twice_2 20 rfl rfl)
theorem dX5_twice_69 : decode cX5_twice 69 = .ok (.iload_n 3, 1) := dk_29 (dk_at dksX5_twice_2 23 rfl rfl)
theorem dX5_twice_70 : decode cX5_twice 70 = .ok (.iaload, 1) := dk_46 (dk_at dksX5_twice_3 0 rfl rfl)
theorem dX5_twice_71 : decode cX5_twice 71 = .ok (.invokevirtual 228, 3) := dk_182 0 228 (dk_at dksX5_twice_3 1 rfl rfl)
theorem dX5_twice_74 : decode cX5_twice 74 = .ok (.iinc 3 1, 3) := dk_132 3 1 (dk_at dksX5_twice_3 4 rfl rfl)
theorem dX5_twice_77 : decode cX5_twice 77 = .ok (.goto (-21), 3) := dk_167 255 235 (dk_at dksX5_twice_3 7 rfl rfl)
theorem dX5_twice_80 : decode cX5_twice 80 = .ok (.aload_n 0, 1) := dk_42 (dk_at dksX5_twice_3 10 rfl rfl)
theorem dX5_twice_81 : decode cX5_twice 81 = .ok (.invokevirtual 237, 3) := dk_182 0 237 (dk_at dksX5_twice_3 11 rfl rfl)
theorem dX5_twice_84 : decode cX5_twice 84 = .ok (.ireturn, 1) := dk_172 (dk_at dksX5_twice_3 14 rfl rfl)
abbrev cX5_unlike : ByteArray := prog_17_method_76_code
def yX5_unlike : MethodName := ⟨RX5, "unlike", "(I)I"⟩
def dkwX5_unlike_2 : List UInt8 := [172]
abbrev dktX5_unlike_2 : List UInt8 := dkwX5_unlike_2 ++ []
def dkwX5_unlike_1 : List UInt8 := [29, 16, 8, 162, 0, 20, 42, 29, 182, 0, 203, 158, 0, 6, 132, 2, 1, 132, 3, 1, 167, 255, 236, 28]
abbrev dktX5_unlike_1 : List UInt8 := dkwX5_unlike_1 ++ dktX5_unlike_2
def dkwX5_unlike_0 : List UInt8 := [42, 27, 182, 0, 234, 154, 0, 10, 42, 16, 254, 182, 0, 96, 172, 42, 27, 182, 0, 117, 3, 61, 3, 62]
abbrev dktX5_unlike_0 : List UInt8 := dkwX5_unlike_0 ++ dktX5_unlike_1
theorem dksX5_unlike_0 : cX5_unlike.data.toList.drop 0 = dktX5_unlike_0 := by decide +kernel
theorem dksX5_unlike_1 : cX5_unlike.data.toList.drop 24 = dktX5_unlike_1 := dk_seg dksX5_unlike_0 24 rfl rfl
theorem dksX5_unlike_2 : cX5_unlike.data.toList.drop 48 = dktX5_unlike_2 := dk_seg dksX5_unlike_1 24 rfl rfl
theorem dX5_unlike_0 : decode cX5_unlike 0 = .ok (.aload_n 0, 1) := dk_42 (dk_at dksX5_unlike_0 0 rfl rfl)
theorem dX5_unlike_1 : decode cX5_unlike 1 = .ok (.iload_n 1, 1) := dk_27 (dk_at dksX5_unlike_0 1 rfl rfl)
theorem dX5_unlike_2 : decode cX5_unlike 2 = .ok (.invokevirtual 234, 3) := dk_182 0 234 (dk_at dksX5_unlike_0 2 rfl rfl)
theorem dX5_unlike_5 : decode cX5_unlike 5 = .ok (.ifCond .ne 10, 3) := dk_154 0 10 (dk_at dksX5_unlike_0 5 rfl rfl)
theorem dX5_unlike_8 : decode cX5_unlike 8 = .ok (.aload_n 0, 1) := dk_42 (dk_at dksX5_unlike_0 8 rfl rfl)
theorem dX5_unlike_9 : decode cX5_unlike 9 = .ok (.bipush (-2), 2) := dk_16 254 (dk_at dksX5_unlike_0 9 rfl rfl)
theorem dX5_unlike_11 : decode cX5_unlike 11 = .ok (.invokevirtual 96, 3) := dk_182 0 96 (dk_at dksX5_unlike_0 11 rfl rfl)
theorem dX5_unlike_14 : decode cX5_unlike 14 = .ok (.ireturn, 1) := dk_172 (dk_at dksX5_unlike_0 14 rfl rfl)
theorem dX5_unlike_15 : decode cX5_unlike 15 = .ok (.aload_n 0, 1) := dk_42 (dk_at dksX5_unlike_0 15 rfl rfl)
theorem dX5_unlike_16 : decode cX5_unlike 16 = .ok (.iload_n 1, 1) := dk_27 (dk_at dksX5_unlike_0 16 rfl rfl)
theorem dX5_unlike_17 : decode cX5_unlike 17 = .ok (.invokevirtual 117, 3) := dk_182 0 117 (dk_at dksX5_unlike_0 17 rfl rfl)
theorem dX5_unlike_20 : decode cX5_unlike 20 = .ok (.iconst 0, 1) := dk_3 (dk_at dksX5_unlike_0 20 rfl rfl)
theorem dX5_unlike_21 : decode cX5_unlike 21 = .ok (.istore_n 2, 1) := dk_61 (dk_at dksX5_unlike_0 21 rfl rfl)
theorem dX5_unlike_22 : decode cX5_unlike 22 = .ok (.iconst 0, 1) := dk_3 (dk_at dksX5_unlike_0 22 rfl rfl)
theorem dX5_unlike_23 : decode cX5_unlike 23 = .ok (.istore_n 3, 1) := dk_62 (dk_at dksX5_unlike_0 23 rfl rfl)
theorem dX5_unlike_24 : decode cX5_unlike 24 = .ok (.iload_n 3, 1) := dk_29 (dk_at dksX5_unlike_1 0 rfl rfl)
theorem dX5_unlike_25 : decode cX5_unlike 25 = .ok (.bipush 8, 2) := dk_16 8 (dk_at dksX5_unlike_1 1 rfl rfl)
theorem dX5_unlike_27 : decode cX5_unlike 27 = .ok (.if_icmp .ge 20, 3) := dk_162 0 20 (dk_at dksX5_unlike_1 3 rfl rfl)
theorem dX5_unlike_30 : decode cX5_unlike 30 = .ok (.aload_n 0, 1) := dk_42 (dk_at dksX5_unlike_1 6 rfl rfl)
theorem dX5_unlike_31 : decode cX5_unlike 31 = .ok (.iload_n 3, 1) := dk_29 (dk_at dksX5_unlike_1 7 rfl rfl)
theorem dX5_unlike_32 : decode cX5_unlike 32 = .ok (.invokevirtual 203, 3) := dk_182 0 203 (dk_at dksX5_unlike_1 8 rfl rfl)
theorem dX5_unlike_35 : decode cX5_unlike 35 = .ok (.ifCond .le 6, 3) := dk_158 0 6 (dk_at dksX5_unlike_1 11 rfl rfl)
theorem dX5_unlike_38 : decode cX5_unlike 38 = .ok (.iinc 2 1, 3) := dk_132 2 1 (dk_at dksX5_unlike_1 14 rfl rfl)
theorem dX5_unlike_41 : decode cX5_unlike 41 = .ok (.iinc 3 1, 3) := dk_132 3 1 (dk_at dksX5_unlike_1 17 rfl rfl)
theorem dX5_unlike_44 : decode cX5_unlike 44 = .ok (.goto (-20), 3) := dk_167 255 236 (dk_at dksX5_unlike_1 20 rfl rfl)
theorem dX5_unlike_47 : decode cX5_unlike 47 = .ok (.iload_n 2, 1) := dk_28 (dk_at dksX5_unlike_1 23 rfl rfl)
theorem dX5_unlike_48 : decode cX5_unlike 48 = .ok (.ireturn, 1) := dk_172 (dk_at dksX5_unlike_2 0 rfl rfl)
abbrev cX5_places : ByteArray := prog_17_method_77_code
def yX5_places : MethodName := ⟨RX5, "places", "()I"⟩
def dkwX5_places_1 : List UInt8 := [128, 60, 132, 2, 1, 167, 255, 231, 27, 172]
abbrev dktX5_places_1 : List UInt8 := dkwX5_places_1 ++ []
def dkwX5_places_0 : List UInt8 := [3, 60, 3, 61, 28, 16, 12, 162, 0, 25, 42, 180, 0, 9, 28, 46, 2, 159, 0, 9, 27, 4, 28, 120]
abbrev dktX5_places_0 : List UInt8 := dkwX5_places_0 ++ dktX5_places_1
theorem dksX5_places_0 : cX5_places.data.toList.drop 0 = dktX5_places_0 := by decide +kernel
theorem dksX5_places_1 : cX5_places.data.toList.drop 24 = dktX5_places_1 := dk_seg dksX5_places_0 24 rfl rfl
theorem dX5_places_0 : decode cX5_places 0 = .ok (.iconst 0, 1) := dk_3 (dk_at dksX5_places_0 0 rfl rfl)
theorem dX5_places_1 : decode cX5_places 1 = .ok (.istore_n 1, 1) := dk_60 (dk_at dksX5_places_0 1 rfl rfl)
theorem dX5_places_2 : decode cX5_places 2 = .ok (.iconst 0, 1) := dk_3 (dk_at dksX5_places_0 2 rfl rfl)
theorem dX5_places_3 : decode cX5_places 3 = .ok (.istore_n 2, 1) := dk_61 (dk_at dksX5_places_0 3 rfl rfl)
theorem dX5_places_4 : decode cX5_places 4 = .ok (.iload_n 2, 1) := dk_28 (dk_at dksX5_places_0 4 rfl rfl)
theorem dX5_places_5 : decode cX5_places 5 = .ok (.bipush 12, 2) := dk_16 12 (dk_at dksX5_places_0 5 rfl rfl)
theorem dX5_places_7 : decode cX5_places 7 = .ok (.if_icmp .ge 25, 3) := dk_162 0 25 (dk_at dksX5_places_0 7 rfl rfl)
theorem dX5_places_10 : decode cX5_places 10 = .ok (.aload_n 0, 1) := dk_42 (dk_at dksX5_places_0 10 rfl rfl)
theorem dX5_places_11 : decode cX5_places 11 = .ok (.getfield 9, 3) := dk_180 0 9 (dk_at dksX5_places_0 11 rfl rfl)
theorem dX5_places_14 : decode cX5_places 14 = .ok (.iload_n 2, 1) := dk_28 (dk_at dksX5_places_0 14 rfl rfl)
theorem dX5_places_15 : decode cX5_places 15 = .ok (.iaload, 1) := dk_46 (dk_at dksX5_places_0 15 rfl rfl)
theorem dX5_places_16 : decode cX5_places 16 = .ok (.iconst (-1), 1) := dk_2 (dk_at dksX5_places_0 16 rfl rfl)
theorem dX5_places_17 : decode cX5_places 17 = .ok (.if_icmp .eq 9, 3) := dk_159 0 9 (dk_at dksX5_places_0 17 rfl rfl)
theorem dX5_places_20 : decode cX5_places 20 = .ok (.iload_n 1, 1) := dk_27 (dk_at dksX5_places_0 20 rfl rfl)
theorem dX5_places_21 : decode cX5_places 21 = .ok (.iconst 1, 1) := dk_4 (dk_at dksX5_places_0 21 rfl rfl)
theorem dX5_places_22 : decode cX5_places 22 = .ok (.iload_n 2, 1) := dk_28 (dk_at dksX5_places_0 22 rfl rfl)
theorem dX5_places_23 : decode cX5_places 23 = .ok (.ishl, 1) := dk_120 (dk_at dksX5_places_0 23 rfl rfl)
theorem dX5_places_24 : decode cX5_places 24 = .ok (.ior, 1) := dk_128 (dk_at dksX5_places_1 0 rfl rfl)
theorem dX5_places_25 : decode cX5_places 25 = .ok (.istore_n 1, 1) := dk_60 (dk_at dksX5_places_1 1 rfl rfl)
theorem dX5_places_26 : decode cX5_places 26 = .ok (.iinc 2 1, 3) := dk_132 2 1 (dk_at dksX5_places_1 2 rfl rfl)
theorem dX5_places_29 : decode cX5_places 29 = .ok (.goto (-25), 3) := dk_167 255 231 (dk_at dksX5_places_1 5 rfl rfl)
theorem dX5_places_32 : decode cX5_places 32 = .ok (.iload_n 1, 1) := dk_27 (dk_at dksX5_places_1 8 rfl rfl)
theorem dX5_places_33 : decode cX5_places 33 = .ok (.ireturn, 1) := dk_172 (dk_at dksX5_places_1 9 rfl rfl)
abbrev cX5_sorts : ByteArray := prog_17_method_79_code
def yX5_sorts : MethodName := ⟨RX5, "sorts", "(II)I"⟩
def dkwX5_sorts_3 : List UInt8 := [27, 160, 0, 6, 132, 3, 1, 132, 4, 1, 167, 255, 212, 29, 172]
abbrev dktX5_sorts_3 : List UInt8 := dkwX5_sorts_3 ++ []
def dkwX5_sorts_2 : List UInt8 := [4, 160, 0, 16, 42, 21, 4, 27, 182, 0, 200, 153, 0, 20, 167, 0, 14, 42, 180, 0, 16, 21, 4, 46]
abbrev dktX5_sorts_2 : List UInt8 := dkwX5_sorts_2 ++ dktX5_sorts_3
def dkwX5_sorts_1 : List UInt8 := [154, 0, 9, 42, 27, 182, 1, 16, 172, 3, 62, 3, 54, 4, 21, 4, 42, 180, 0, 89, 162, 0, 41, 28]
abbrev dktX5_sorts_1 : List UInt8 := dkwX5_sorts_1 ++ dktX5_sorts_2
def dkwX5_sorts_0 : List UInt8 := [27, 184, 0, 124, 153, 0, 12, 28, 3, 5, 184, 0, 85, 154, 0, 10, 42, 16, 254, 182, 0, 96, 172, 28]
abbrev dktX5_sorts_0 : List UInt8 := dkwX5_sorts_0 ++ dktX5_sorts_1
theorem dksX5_sorts_0 : cX5_sorts.data.toList.drop 0 = dktX5_sorts_0 := by decide +kernel
theorem dksX5_sorts_1 : cX5_sorts.data.toList.drop 24 = dktX5_sorts_1 := dk_seg dksX5_sorts_0 24 rfl rfl
theorem dksX5_sorts_2 : cX5_sorts.data.toList.drop 48 = dktX5_sorts_2 := dk_seg dksX5_sorts_1 24 rfl rfl
theorem dksX5_sorts_3 : cX5_sorts.data.toList.drop 72 = dktX5_sorts_3 := dk_seg dksX5_sorts_2 24 rfl rfl
theorem dX5_sorts_0 : decode cX5_sorts 0 = .ok (.iload_n 1, 1) := dk_27 (dk_at dksX5_sorts_0 0 rfl rfl)
theorem dX5_sorts_1 : decode cX5_sorts 1 = .ok (.invokestatic 124, 3) := dk_184 0 124 (dk_at dksX5_sorts_0 1 rfl rfl)
theorem dX5_sorts_4 : decode cX5_sorts 4 = .ok (.ifCond .eq 12, 3) := dk_153 0 12 (dk_at dksX5_sorts_0 4 rfl rfl)
theorem dX5_sorts_7 : decode cX5_sorts 7 = .ok (.iload_n 2, 1) := dk_28 (dk_at dksX5_sorts_0 7 rfl rfl)
theorem dX5_sorts_8 : decode cX5_sorts 8 = .ok (.iconst 0, 1) := dk_3 (dk_at dksX5_sorts_0 8 rfl rfl)
theorem dX5_sorts_9 : decode cX5_sorts 9 = .ok (.iconst 2, 1) := dk_5 (dk_at dksX5_sorts_0 9 rfl rfl)
theorem dX5_sorts_10 : decode cX5_sorts 10 = .ok (.invokestatic 85, 3) := dk_184 0 85 (dk_at dksX5_sorts_0 10 rfl rfl)
theorem dX5_sorts_13 : decode cX5_sorts 13 = .ok (.ifCond .ne 10, 3) := dk_154 0 10 (dk_at dksX5_sorts_0 13 rfl rfl)
theorem dX5_sorts_16 : decode cX5_sorts 16 = .ok (.aload_n 0, 1) := dk_42 (dk_at dksX5_sorts_0 16 rfl rfl)
theorem dX5_sorts_17 : decode cX5_sorts 17 = .ok (.bipush (-2), 2) := dk_16 254 (dk_at dksX5_sorts_0 17 rfl rfl)
theorem dX5_sorts_19 : decode cX5_sorts 19 = .ok (.invokevirtual 96, 3) := dk_182 0 96 (dk_at dksX5_sorts_0 19 rfl rfl)
theorem dX5_sorts_22 : decode cX5_sorts 22 = .ok (.ireturn, 1) := dk_172 (dk_at dksX5_sorts_0 22 rfl rfl)
theorem dX5_sorts_23 : decode cX5_sorts 23 = .ok (.iload_n 2, 1) := dk_28 (dk_at dksX5_sorts_0 23 rfl rfl)
theorem dX5_sorts_24 : decode cX5_sorts 24 = .ok (.ifCond .ne 9, 3) := dk_154 0 9 (dk_at dksX5_sorts_1 0 rfl rfl)
theorem dX5_sorts_27 : decode cX5_sorts 27 = .ok (.aload_n 0, 1) := dk_42 (dk_at dksX5_sorts_1 3 rfl rfl)
theorem dX5_sorts_28 : decode cX5_sorts 28 = .ok (.iload_n 1, 1) := dk_27 (dk_at dksX5_sorts_1 4 rfl rfl)
theorem dX5_sorts_29 : decode cX5_sorts 29 = .ok (.invokevirtual 272, 3) := dk_182 1 16 (dk_at dksX5_sorts_1 5 rfl rfl)
theorem dX5_sorts_32 : decode cX5_sorts 32 = .ok (.ireturn, 1) := dk_172 (dk_at dksX5_sorts_1 8 rfl rfl)
theorem dX5_sorts_33 : decode cX5_sorts 33 = .ok (.iconst 0, 1) := dk_3 (dk_at dksX5_sorts_1 9 rfl rfl)
theorem dX5_sorts_34 : decode cX5_sorts 34 = .ok (.istore_n 3, 1) := dk_62 (dk_at dksX5_sorts_1 10 rfl rfl)
theorem dX5_sorts_35 : decode cX5_sorts 35 = .ok (.iconst 0, 1) := dk_3 (dk_at dksX5_sorts_1 11 rfl rfl)
theorem dX5_sorts_36 : decode cX5_sorts 36 = .ok (.istore 4, 2) := dk_54 4 (dk_at dksX5_sorts_1 12 rfl rfl)
theorem dX5_sorts_38 : decode cX5_sorts 38 = .ok (.iload 4, 2) := dk_21 4 (dk_at dksX5_sorts_1 14 rfl rfl)
theorem dX5_sorts_40 : decode cX5_sorts 40 = .ok (.aload_n 0, 1) := dk_42 (dk_at dksX5_sorts_1 16 rfl rfl)
theorem dX5_sorts_41 : decode cX5_sorts 41 = .ok (.getfield 89, 3) := dk_180 0 89 (dk_at dksX5_sorts_1 17 rfl rfl)
theorem dX5_sorts_44 : decode cX5_sorts 44 = .ok (.if_icmp .ge 41, 3) := dk_162 0 41 (dk_at dksX5_sorts_1 20 rfl rfl)
theorem dX5_sorts_47 : decode cX5_sorts 47 = .ok (.iload_n 2, 1) := dk_28 (dk_at dksX5_sorts_1 23 rfl rfl)
theorem dX5_sorts_48 : decode cX5_sorts 48 = .ok (.iconst 1, 1) := dk_4 (dk_at dksX5_sorts_2 0 rfl rfl)
theorem dX5_sorts_49 : decode cX5_sorts 49 = .ok (.if_icmp .ne 16, 3) := dk_160 0 16 (dk_at dksX5_sorts_2 1 rfl rfl)
theorem dX5_sorts_52 : decode cX5_sorts 52 = .ok (.aload_n 0, 1) := dk_42 (dk_at dksX5_sorts_2 4 rfl rfl)
theorem dX5_sorts_53 : decode cX5_sorts 53 = .ok (.iload 4, 2) := dk_21 4 (dk_at dksX5_sorts_2 5 rfl rfl)
theorem dX5_sorts_55 : decode cX5_sorts 55 = .ok (.iload_n 1, 1) := dk_27 (dk_at dksX5_sorts_2 7 rfl rfl)
theorem dX5_sorts_56 : decode cX5_sorts 56 = .ok (.invokevirtual 200, 3) := dk_182 0 200 (dk_at dksX5_sorts_2 8 rfl rfl)
theorem dX5_sorts_59 : decode cX5_sorts 59 = .ok (.ifCond .eq 20, 3) := dk_153 0 20 (dk_at dksX5_sorts_2 11 rfl rfl)
theorem dX5_sorts_62 : decode cX5_sorts 62 = .ok (.goto 14, 3) := dk_167 0 14 (dk_at dksX5_sorts_2 14 rfl rfl)
theorem dX5_sorts_65 : decode cX5_sorts 65 = .ok (.aload_n 0, 1) := dk_42 (dk_at dksX5_sorts_2 17 rfl rfl)
theorem dX5_sorts_66 : decode cX5_sorts 66 = .ok (.getfield 16, 3) := dk_180 0 16 (dk_at dksX5_sorts_2 18 rfl rfl)
theorem dX5_sorts_69 : decode cX5_sorts 69 = .ok (.iload 4, 2) := dk_21 4 (dk_at dksX5_sorts_2 21 rfl rfl)
theorem dX5_sorts_71 : decode cX5_sorts 71 = .ok (.iaload, 1) := dk_46 (dk_at dksX5_sorts_2 23 rfl rfl)
theorem dX5_sorts_72 : decode cX5_sorts 72 = .ok (.iload_n 1, 1) := dk_27 (dk_at dksX5_sorts_3 0 rfl rfl)
theorem dX5_sorts_73 : decode cX5_sorts 73 = .ok (.if_icmp .ne 6, 3) := dk_160 0 6 (dk_at dksX5_sorts_3 1 rfl rfl)
theorem dX5_sorts_76 : decode cX5_sorts 76 = .ok (.iinc 3 1, 3) := dk_132 3 1 (dk_at dksX5_sorts_3 4 rfl rfl)
theorem dX5_sorts_79 : decode cX5_sorts 79 = .ok (.iinc 4 1, 3) := dk_132 4 1 (dk_at dksX5_sorts_3 7 rfl rfl)
theorem dX5_sorts_82 : decode cX5_sorts 82 = .ok (.goto (-44), 3) := dk_167 255 212 (dk_at dksX5_sorts_3 10 rfl rfl)
theorem dX5_sorts_85 : decode cX5_sorts 85 = .ok (.iload_n 3, 1) := dk_29 (dk_at dksX5_sorts_3 13 rfl rfl)
theorem dX5_sorts_86 : decode cX5_sorts 86 = .ok (.ireturn, 1) := dk_172 (dk_at dksX5_sorts_3 14 rfl rfl)
abbrev cX5_inWindow : ByteArray := prog_17_method_78_code
def yX5_inWindow : MethodName := ⟨RX5, "inWindow", "(I)I"⟩
def dkwX5_inWindow_1 : List UInt8 := [132, 3, 1, 167, 255, 234, 28, 172]
abbrev dktX5_inWindow_1 : List UInt8 := dkwX5_inWindow_1 ++ []
def dkwX5_inWindow_0 : List UInt8 := [3, 61, 3, 62, 29, 16, 12, 162, 0, 22, 42, 180, 0, 9, 29, 46, 27, 160, 0, 6, 132, 2, 1]
abbrev dktX5_inWindow_0 : List UInt8 := dkwX5_inWindow_0 ++ dktX5_inWindow_1
theorem dksX5_inWindow_0 : cX5_inWindow.data.toList.drop 0 = dktX5_inWindow_0 := by decide +kernel
theorem dksX5_inWindow_1 : cX5_inWindow.data.toList.drop 23 = dktX5_inWindow_1 := dk_seg dksX5_inWindow_0 23 rfl rfl
theorem dX5_inWindow_0 : decode cX5_inWindow 0 = .ok (.iconst 0, 1) := dk_3 (dk_at dksX5_inWindow_0 0 rfl rfl)
theorem dX5_inWindow_1 : decode cX5_inWindow 1 = .ok (.istore_n 2, 1) := dk_61 (dk_at dksX5_inWindow_0 1 rfl rfl)
theorem dX5_inWindow_2 : decode cX5_inWindow 2 = .ok (.iconst 0, 1) := dk_3 (dk_at dksX5_inWindow_0 2 rfl rfl)
theorem dX5_inWindow_3 : decode cX5_inWindow 3 = .ok (.istore_n 3, 1) := dk_62 (dk_at dksX5_inWindow_0 3 rfl rfl)
theorem dX5_inWindow_4 : decode cX5_inWindow 4 = .ok (.iload_n 3, 1) := dk_29 (dk_at dksX5_inWindow_0 4 rfl rfl)
theorem dX5_inWindow_5 : decode cX5_inWindow 5 = .ok (.bipush 12, 2) := dk_16 12 (dk_at dksX5_inWindow_0 5 rfl rfl)
theorem dX5_inWindow_7 : decode cX5_inWindow 7 = .ok (.if_icmp .ge 22, 3) := dk_162 0 22 (dk_at dksX5_inWindow_0 7 rfl rfl)
theorem dX5_inWindow_10 : decode cX5_inWindow 10 = .ok (.aload_n 0, 1) := dk_42 (dk_at dksX5_inWindow_0 10 rfl rfl)
theorem dX5_inWindow_11 : decode cX5_inWindow 11 = .ok (.getfield 9, 3) := dk_180 0 9 (dk_at dksX5_inWindow_0 11 rfl rfl)
theorem dX5_inWindow_14 : decode cX5_inWindow 14 = .ok (.iload_n 3, 1) := dk_29 (dk_at dksX5_inWindow_0 14 rfl rfl)
theorem dX5_inWindow_15 : decode cX5_inWindow 15 = .ok (.iaload, 1) := dk_46 (dk_at dksX5_inWindow_0 15 rfl rfl)
theorem dX5_inWindow_16 : decode cX5_inWindow 16 = .ok (.iload_n 1, 1) := dk_27 (dk_at dksX5_inWindow_0 16 rfl rfl)
theorem dX5_inWindow_17 : decode cX5_inWindow 17 = .ok (.if_icmp .ne 6, 3) := dk_160 0 6 (dk_at dksX5_inWindow_0 17 rfl rfl)
theorem dX5_inWindow_20 : decode cX5_inWindow 20 = .ok (.iinc 2 1, 3) := dk_132 2 1 (dk_at dksX5_inWindow_0 20 rfl rfl)
theorem dX5_inWindow_23 : decode cX5_inWindow 23 = .ok (.iinc 3 1, 3) := dk_132 3 1 (dk_at dksX5_inWindow_1 0 rfl rfl)
theorem dX5_inWindow_26 : decode cX5_inWindow 26 = .ok (.goto (-22), 3) := dk_167 255 234 (dk_at dksX5_inWindow_1 3 rfl rfl)
theorem dX5_inWindow_29 : decode cX5_inWindow 29 = .ok (.iload_n 2, 1) := dk_28 (dk_at dksX5_inWindow_1 6 rfl rfl)
theorem dX5_inWindow_30 : decode cX5_inWindow 30 = .ok (.ireturn, 1) := dk_172 (dk_at dksX5_inWindow_1 7 rfl rfl)
abbrev cX5_rare : ByteArray := prog_17_method_80_code
def yX5_rare : MethodName := ⟨RX5, "rare", "(I)I"⟩
def dkwX5_rare_3 : List UInt8 := [61, 132, 3, 1, 167, 255, 201, 28, 2, 160, 0, 12, 42, 16, 251, 182, 0, 96, 167, 0, 4, 28, 172]
abbrev dktX5_rare_3 : List UInt8 := dkwX5_rare_3 ++ []
def dkwX5_rare_2 : List UInt8 := [21, 4, 42, 28, 182, 1, 16, 162, 0, 18, 167, 0, 13, 21, 4, 42, 28, 182, 1, 16, 164, 0, 5, 29]
abbrev dktX5_rare_2 : List UInt8 := dkwX5_rare_2 ++ dktX5_rare_3
def dkwX5_rare_1 : List UInt8 := [162, 0, 55, 42, 29, 182, 1, 16, 54, 4, 21, 4, 158, 0, 37, 28, 2, 159, 0, 30, 27, 154, 0, 16]
abbrev dktX5_rare_1 : List UInt8 := dkwX5_rare_1 ++ dktX5_rare_2
def dkwX5_rare_0 : List UInt8 := [27, 3, 4, 184, 0, 85, 154, 0, 10, 42, 16, 254, 182, 0, 96, 172, 2, 61, 3, 62, 29, 16, 8]
abbrev dktX5_rare_0 : List UInt8 := dkwX5_rare_0 ++ dktX5_rare_1
theorem dksX5_rare_0 : cX5_rare.data.toList.drop 0 = dktX5_rare_0 := by decide +kernel
theorem dksX5_rare_1 : cX5_rare.data.toList.drop 23 = dktX5_rare_1 := dk_seg dksX5_rare_0 23 rfl rfl
theorem dksX5_rare_2 : cX5_rare.data.toList.drop 47 = dktX5_rare_2 := dk_seg dksX5_rare_1 24 rfl rfl
theorem dksX5_rare_3 : cX5_rare.data.toList.drop 71 = dktX5_rare_3 := dk_seg dksX5_rare_2 24 rfl rfl
theorem dX5_rare_0 : decode cX5_rare 0 = .ok (.iload_n 1, 1) := dk_27 (dk_at dksX5_rare_0 0 rfl rfl)
theorem dX5_rare_1 : decode cX5_rare 1 = .ok (.iconst 0, 1) := dk_3 (dk_at dksX5_rare_0 1 rfl rfl)
theorem dX5_rare_2 : decode cX5_rare 2 = .ok (.iconst 1, 1) := dk_4 (dk_at dksX5_rare_0 2 rfl rfl)
theorem dX5_rare_3 : decode cX5_rare 3 = .ok (.invokestatic 85, 3) := dk_184 0 85 (dk_at dksX5_rare_0 3 rfl rfl)
theorem dX5_rare_6 : decode cX5_rare 6 = .ok (.ifCond .ne 10, 3) := dk_154 0 10 (dk_at dksX5_rare_0 6 rfl rfl)
theorem dX5_rare_9 : decode cX5_rare 9 = .ok (.aload_n 0, 1) := dk_42 (dk_at dksX5_rare_0 9 rfl rfl)
theorem dX5_rare_10 : decode cX5_rare 10 = .ok (.bipush (-2), 2) := dk_16 254 (dk_at dksX5_rare_0 10 rfl rfl)
theorem dX5_rare_12 : decode cX5_rare 12 = .ok (.invokevirtual 96, 3) := dk_182 0 96 (dk_at dksX5_rare_0 12 rfl rfl)
theorem dX5_rare_15 : decode cX5_rare 15 = .ok (.ireturn, 1) := dk_172 (dk_at dksX5_rare_0 15 rfl rfl)
theorem dX5_rare_16 : decode cX5_rare 16 = .ok (.iconst (-1), 1) := dk_2 (dk_at dksX5_rare_0 16 rfl rfl)
theorem dX5_rare_17 : decode cX5_rare 17 = .ok (.istore_n 2, 1) := dk_61 (dk_at dksX5_rare_0 17 rfl rfl)
theorem dX5_rare_18 : decode cX5_rare 18 = .ok (.iconst 0, 1) := dk_3 (dk_at dksX5_rare_0 18 rfl rfl)
theorem dX5_rare_19 : decode cX5_rare 19 = .ok (.istore_n 3, 1) := dk_62 (dk_at dksX5_rare_0 19 rfl rfl)
theorem dX5_rare_20 : decode cX5_rare 20 = .ok (.iload_n 3, 1) := dk_29 (dk_at dksX5_rare_0 20 rfl rfl)
theorem dX5_rare_21 : decode cX5_rare 21 = .ok (.bipush 8, 2) := dk_16 8 (dk_at dksX5_rare_0 21 rfl rfl)
theorem dX5_rare_23 : decode cX5_rare 23 = .ok (.if_icmp .ge 55, 3) := dk_162 0 55 (dk_at dksX5_rare_1 0 rfl rfl)
theorem dX5_rare_26 : decode cX5_rare 26 = .ok (.aload_n 0, 1) := dk_42 (dk_at dksX5_rare_1 3 rfl rfl)
theorem dX5_rare_27 : decode cX5_rare 27 = .ok (.iload_n 3, 1) := dk_29 (dk_at dksX5_rare_1 4 rfl rfl)
theorem dX5_rare_28 : decode cX5_rare 28 = .ok (.invokevirtual 272, 3) := dk_182 1 16 (dk_at dksX5_rare_1 5 rfl rfl)
theorem dX5_rare_31 : decode cX5_rare 31 = .ok (.istore 4, 2) := dk_54 4 (dk_at dksX5_rare_1 8 rfl rfl)
theorem dX5_rare_33 : decode cX5_rare 33 = .ok (.iload 4, 2) := dk_21 4 (dk_at dksX5_rare_1 10 rfl rfl)
theorem dX5_rare_35 : decode cX5_rare 35 = .ok (.ifCond .le 37, 3) := dk_158 0 37 (dk_at dksX5_rare_1 12 rfl rfl)
theorem dX5_rare_38 : decode cX5_rare 38 = .ok (.iload_n 2, 1) := dk_28 (dk_at dksX5_rare_1 15 rfl rfl)
theorem dX5_rare_39 : decode cX5_rare 39 = .ok (.iconst (-1), 1) := dk_2 (dk_at dksX5_rare_1 16 rfl rfl)
theorem dX5_rare_40 : decode cX5_rare 40 = .ok (.if_icmp .eq 30, 3) := dk_159 0 30 (dk_at dksX5_rare_1 17 rfl rfl)
theorem dX5_rare_43 : decode cX5_rare 43 = .ok (.iload_n 1, 1) := dk_27 (dk_at dksX5_rare_1 20 rfl rfl)
theorem dX5_rare_44 : decode cX5_rare 44 = .ok (.ifCond .ne 16, 3) := dk_154 0 16 (dk_at dksX5_rare_1 21 rfl rfl)
theorem dX5_rare_47 : decode cX5_rare 47 = .ok (.iload 4, 2) := dk_21 4 (dk_at dksX5_rare_2 0 rfl rfl)
theorem dX5_rare_49 : decode cX5_rare 49 = .ok (.aload_n 0, 1) := dk_42 (dk_at dksX5_rare_2 2 rfl rfl)
theorem dX5_rare_50 : decode cX5_rare 50 = .ok (.iload_n 2, 1) := dk_28 (dk_at dksX5_rare_2 3 rfl rfl)
theorem dX5_rare_51 : decode cX5_rare 51 = .ok (.invokevirtual 272, 3) := dk_182 1 16 (dk_at dksX5_rare_2 4 rfl rfl)
theorem dX5_rare_54 : decode cX5_rare 54 = .ok (.if_icmp .ge 18, 3) := dk_162 0 18 (dk_at dksX5_rare_2 7 rfl rfl)
theorem dX5_rare_57 : decode cX5_rare 57 = .ok (.goto 13, 3) := dk_167 0 13 (dk_at dksX5_rare_2 10 rfl rfl)
theorem dX5_rare_60 : decode cX5_rare 60 = .ok (.iload 4, 2) := dk_21 4 (dk_at dksX5_rare_2 13 rfl rfl)
theorem dX5_rare_62 : decode cX5_rare 62 = .ok (.aload_n 0, 1) := dk_42 (dk_at dksX5_rare_2 15 rfl rfl)
theorem dX5_rare_63 : decode cX5_rare 63 = .ok (.iload_n 2, 1) := dk_28 (dk_at dksX5_rare_2 16 rfl rfl)
theorem dX5_rare_64 : decode cX5_rare 64 = .ok (.invokevirtual 272, 3) := dk_182 1 16 (dk_at dksX5_rare_2 17 rfl rfl)
theorem dX5_rare_67 : decode cX5_rare 67 = .ok (.if_icmp .le 5, 3) := dk_164 0 5 (dk_at dksX5_rare_2 20 rfl rfl)
theorem dX5_rare_70 : decode cX5_rare 70 = .ok (.iload_n 3, 1) := dk_29 (dk_at dksX5_rare_2 23 rfl rfl)
theorem dX5_rare_71 : decode cX5_rare 71 = .ok (.istore_n 2, 1) := dk_61 (dk_at dksX5_rare_3 0 rfl rfl)
theorem dX5_rare_72 : decode cX5_rare 72 = .ok (.iinc 3 1, 3) := dk_132 3 1 (dk_at dksX5_rare_3 1 rfl rfl)
theorem dX5_rare_75 : decode cX5_rare 75 = .ok (.goto (-55), 3) := dk_167 255 201 (dk_at dksX5_rare_3 4 rfl rfl)
theorem dX5_rare_78 : decode cX5_rare 78 = .ok (.iload_n 2, 1) := dk_28 (dk_at dksX5_rare_3 7 rfl rfl)
theorem dX5_rare_79 : decode cX5_rare 79 = .ok (.iconst (-1), 1) := dk_2 (dk_at dksX5_rare_3 8 rfl rfl)
theorem dX5_rare_80 : decode cX5_rare 80 = .ok (.if_icmp .ne 12, 3) := dk_160 0 12 (dk_at dksX5_rare_3 9 rfl rfl)
theorem dX5_rare_83 : decode cX5_rare 83 = .ok (.aload_n 0, 1) := dk_42 (dk_at dksX5_rare_3 12 rfl rfl)
theorem dX5_rare_84 : decode cX5_rare 84 = .ok (.bipush (-5), 2) := dk_16 251 (dk_at dksX5_rare_3 13 rfl rfl)
theorem dX5_rare_86 : decode cX5_rare 86 = .ok (.invokevirtual 96, 3) := dk_182 0 96 (dk_at dksX5_rare_3 15 rfl rfl)
theorem dX5_rare_89 : decode cX5_rare 89 = .ok (.goto 4, 3) := dk_167 0 4 (dk_at dksX5_rare_3 18 rfl rfl)
theorem dX5_rare_92 : decode cX5_rare 92 = .ok (.iload_n 2, 1) := dk_28 (dk_at dksX5_rare_3 21 rfl rfl)
theorem dX5_rare_93 : decode cX5_rare 93 = .ok (.ireturn, 1) := dk_172 (dk_at dksX5_rare_3 22 rfl rfl)
abbrev cX5_first : ByteArray := prog_17_method_82_code
def yX5_first : MethodName := ⟨RX5, "first", "(I)I"⟩
def dkwX5_first_3 : List UInt8 := [167, 0, 4, 28, 172]
abbrev dktX5_first_3 : List UInt8 := dkwX5_first_3 ++ []
def dkwX5_first_2 : List UInt8 := [164, 0, 5, 29, 61, 132, 3, 1, 167, 255, 223, 28, 2, 160, 0, 12, 42, 16, 251, 182, 0, 96]
abbrev dktX5_first_2 : List UInt8 := dkwX5_first_2 ++ dktX5_first_3
def dkwX5_first_1 : List UInt8 := [180, 0, 89, 162, 0, 31, 28, 2, 159, 0, 18, 42, 29, 27, 182, 1, 19, 42, 28, 27, 182, 1, 19]
abbrev dktX5_first_1 : List UInt8 := dkwX5_first_1 ++ dktX5_first_2
def dkwX5_first_0 : List UInt8 := [27, 3, 5, 184, 0, 85, 154, 0, 10, 42, 16, 254, 182, 0, 96, 172, 2, 61, 3, 62, 29, 42]
abbrev dktX5_first_0 : List UInt8 := dkwX5_first_0 ++ dktX5_first_1
theorem dksX5_first_0 : cX5_first.data.toList.drop 0 = dktX5_first_0 := by decide +kernel
theorem dksX5_first_1 : cX5_first.data.toList.drop 22 = dktX5_first_1 := dk_seg dksX5_first_0 22 rfl rfl
theorem dksX5_first_2 : cX5_first.data.toList.drop 45 = dktX5_first_2 := dk_seg dksX5_first_1 23 rfl rfl
theorem dksX5_first_3 : cX5_first.data.toList.drop 67 = dktX5_first_3 := dk_seg dksX5_first_2 22 rfl rfl
theorem dX5_first_0 : decode cX5_first 0 = .ok (.iload_n 1, 1) := dk_27 (dk_at dksX5_first_0 0 rfl rfl)
theorem dX5_first_1 : decode cX5_first 1 = .ok (.iconst 0, 1) := dk_3 (dk_at dksX5_first_0 1 rfl rfl)
theorem dX5_first_2 : decode cX5_first 2 = .ok (.iconst 2, 1) := dk_5 (dk_at dksX5_first_0 2 rfl rfl)
theorem dX5_first_3 : decode cX5_first 3 = .ok (.invokestatic 85, 3) := dk_184 0 85 (dk_at dksX5_first_0 3 rfl rfl)
theorem dX5_first_6 : decode cX5_first 6 = .ok (.ifCond .ne 10, 3) := dk_154 0 10 (dk_at dksX5_first_0 6 rfl rfl)
theorem dX5_first_9 : decode cX5_first 9 = .ok (.aload_n 0, 1) := dk_42 (dk_at dksX5_first_0 9 rfl rfl)
theorem dX5_first_10 : decode cX5_first 10 = .ok (.bipush (-2), 2) := dk_16 254 (dk_at dksX5_first_0 10 rfl rfl)
theorem dX5_first_12 : decode cX5_first 12 = .ok (.invokevirtual 96, 3) := dk_182 0 96 (dk_at dksX5_first_0 12 rfl rfl)
theorem dX5_first_15 : decode cX5_first 15 = .ok (.ireturn, 1) := dk_172 (dk_at dksX5_first_0 15 rfl rfl)
theorem dX5_first_16 : decode cX5_first 16 = .ok (.iconst (-1), 1) := dk_2 (dk_at dksX5_first_0 16 rfl rfl)
theorem dX5_first_17 : decode cX5_first 17 = .ok (.istore_n 2, 1) := dk_61 (dk_at dksX5_first_0 17 rfl rfl)
theorem dX5_first_18 : decode cX5_first 18 = .ok (.iconst 0, 1) := dk_3 (dk_at dksX5_first_0 18 rfl rfl)
theorem dX5_first_19 : decode cX5_first 19 = .ok (.istore_n 3, 1) := dk_62 (dk_at dksX5_first_0 19 rfl rfl)
theorem dX5_first_20 : decode cX5_first 20 = .ok (.iload_n 3, 1) := dk_29 (dk_at dksX5_first_0 20 rfl rfl)
theorem dX5_first_21 : decode cX5_first 21 = .ok (.aload_n 0, 1) := dk_42 (dk_at dksX5_first_0 21 rfl rfl)
theorem dX5_first_22 : decode cX5_first 22 = .ok (.getfield 89, 3) := dk_180 0 89 (dk_at dksX5_first_1 0 rfl rfl)
theorem dX5_first_25 : decode cX5_first 25 = .ok (.if_icmp .ge 31, 3) := dk_162 0 31 (dk_at dksX5_first_1 3 rfl rfl)
theorem dX5_first_28 : decode cX5_first 28 = .ok (.iload_n 2, 1) := dk_28 (dk_at dksX5_first_1 6 rfl rfl)
theorem dX5_first_29 : decode cX5_first 29 = .ok (.iconst (-1), 1) := dk_2 (dk_at dksX5_first_1 7 rfl rfl)
theorem dX5_first_30 : decode cX5_first 30 = .ok (.if_icmp .eq 18, 3) := dk_159 0 18 (dk_at dksX5_first_1 8 rfl rfl)
theorem dX5_first_33 : decode cX5_first 33 = .ok (.aload_n 0, 1) := dk_42 (dk_at dksX5_first_1 11 rfl rfl)
theorem dX5_first_34 : decode cX5_first 34 = .ok (.iload_n 3, 1) := dk_29 (dk_at dksX5_first_1 12 rfl rfl)
theorem dX5_first_35 : decode cX5_first 35 = .ok (.iload_n 1, 1) := dk_27 (dk_at dksX5_first_1 13 rfl rfl)
theorem dX5_first_36 : decode cX5_first 36 = .ok (.invokevirtual 275, 3) := dk_182 1 19 (dk_at dksX5_first_1 14 rfl rfl)
theorem dX5_first_39 : decode cX5_first 39 = .ok (.aload_n 0, 1) := dk_42 (dk_at dksX5_first_1 17 rfl rfl)
theorem dX5_first_40 : decode cX5_first 40 = .ok (.iload_n 2, 1) := dk_28 (dk_at dksX5_first_1 18 rfl rfl)
theorem dX5_first_41 : decode cX5_first 41 = .ok (.iload_n 1, 1) := dk_27 (dk_at dksX5_first_1 19 rfl rfl)
theorem dX5_first_42 : decode cX5_first 42 = .ok (.invokevirtual 275, 3) := dk_182 1 19 (dk_at dksX5_first_1 20 rfl rfl)
theorem dX5_first_45 : decode cX5_first 45 = .ok (.if_icmp .le 5, 3) := dk_164 0 5 (dk_at dksX5_first_2 0 rfl rfl)
theorem dX5_first_48 : decode cX5_first 48 = .ok (.iload_n 3, 1) := dk_29 (dk_at dksX5_first_2 3 rfl rfl)
theorem dX5_first_49 : decode cX5_first 49 = .ok (.istore_n 2, 1) := dk_61 (dk_at dksX5_first_2 4 rfl rfl)
theorem dX5_first_50 : decode cX5_first 50 = .ok (.iinc 3 1, 3) := dk_132 3 1 (dk_at dksX5_first_2 5 rfl rfl)
theorem dX5_first_53 : decode cX5_first 53 = .ok (.goto (-33), 3) := dk_167 255 223 (dk_at dksX5_first_2 8 rfl rfl)
theorem dX5_first_56 : decode cX5_first 56 = .ok (.iload_n 2, 1) := dk_28 (dk_at dksX5_first_2 11 rfl rfl)
theorem dX5_first_57 : decode cX5_first 57 = .ok (.iconst (-1), 1) := dk_2 (dk_at dksX5_first_2 12 rfl rfl)
theorem dX5_first_58 : decode cX5_first 58 = .ok (.if_icmp .ne 12, 3) := dk_160 0 12 (dk_at dksX5_first_2 13 rfl rfl)
theorem dX5_first_61 : decode cX5_first 61 = .ok (.aload_n 0, 1) := dk_42 (dk_at dksX5_first_2 16 rfl rfl)
theorem dX5_first_62 : decode cX5_first 62 = .ok (.bipush (-5), 2) := dk_16 251 (dk_at dksX5_first_2 17 rfl rfl)
theorem dX5_first_64 : decode cX5_first 64 = .ok (.invokevirtual 96, 3) := dk_182 0 96 (dk_at dksX5_first_2 19 rfl rfl)
theorem dX5_first_67 : decode cX5_first 67 = .ok (.goto 4, 3) := dk_167 0 4 (dk_at dksX5_first_3 0 rfl rfl)
theorem dX5_first_70 : decode cX5_first 70 = .ok (.iload_n 2, 1) := dk_28 (dk_at dksX5_first_3 3 rfl rfl)
theorem dX5_first_71 : decode cX5_first 71 = .ok (.ireturn, 1) := dk_172 (dk_at dksX5_first_3 4 rfl rfl)
abbrev cX5_rank : ByteArray := prog_17_method_81_code
def yX5_rank : MethodName := ⟨RX5, "rank", "(II)I"⟩
def dkwX5_rank_2 : List UInt8 := [21, 4, 96, 46, 96, 62, 132, 4, 1, 167, 255, 231, 29, 172]
abbrev dktX5_rank_2 : List UInt8 := dkwX5_rank_2 ++ []
def dkwX5_rank_1 : List UInt8 := [46, 172, 3, 62, 3, 54, 4, 21, 4, 16, 8, 162, 0, 24, 29, 42, 180, 0, 31, 16, 8, 27, 104]
abbrev dktX5_rank_1 : List UInt8 := dkwX5_rank_1 ++ dktX5_rank_2
def dkwX5_rank_0 : List UInt8 := [28, 5, 162, 0, 24, 28, 154, 0, 13, 42, 180, 0, 19, 27, 46, 116, 167, 0, 9, 42, 180, 0, 19, 27]
abbrev dktX5_rank_0 : List UInt8 := dkwX5_rank_0 ++ dktX5_rank_1
theorem dksX5_rank_0 : cX5_rank.data.toList.drop 0 = dktX5_rank_0 := by decide +kernel
theorem dksX5_rank_1 : cX5_rank.data.toList.drop 24 = dktX5_rank_1 := dk_seg dksX5_rank_0 24 rfl rfl
theorem dksX5_rank_2 : cX5_rank.data.toList.drop 47 = dktX5_rank_2 := dk_seg dksX5_rank_1 23 rfl rfl
theorem dX5_rank_0 : decode cX5_rank 0 = .ok (.iload_n 2, 1) := dk_28 (dk_at dksX5_rank_0 0 rfl rfl)
theorem dX5_rank_1 : decode cX5_rank 1 = .ok (.iconst 2, 1) := dk_5 (dk_at dksX5_rank_0 1 rfl rfl)
theorem dX5_rank_2 : decode cX5_rank 2 = .ok (.if_icmp .ge 24, 3) := dk_162 0 24 (dk_at dksX5_rank_0 2 rfl rfl)
theorem dX5_rank_5 : decode cX5_rank 5 = .ok (.iload_n 2, 1) := dk_28 (dk_at dksX5_rank_0 5 rfl rfl)
theorem dX5_rank_6 : decode cX5_rank 6 = .ok (.ifCond .ne 13, 3) := dk_154 0 13 (dk_at dksX5_rank_0 6 rfl rfl)
theorem dX5_rank_9 : decode cX5_rank 9 = .ok (.aload_n 0, 1) := dk_42 (dk_at dksX5_rank_0 9 rfl rfl)
theorem dX5_rank_10 : decode cX5_rank 10 = .ok (.getfield 19, 3) := dk_180 0 19 (dk_at dksX5_rank_0 10 rfl rfl)
theorem dX5_rank_13 : decode cX5_rank 13 = .ok (.iload_n 1, 1) := dk_27 (dk_at dksX5_rank_0 13 rfl rfl)
theorem dX5_rank_14 : decode cX5_rank 14 = .ok (.iaload, 1) := dk_46 (dk_at dksX5_rank_0 14 rfl rfl)
theorem dX5_rank_15 : decode cX5_rank 15 = .ok (.ineg, 1) := dk_116 (dk_at dksX5_rank_0 15 rfl rfl)
theorem dX5_rank_16 : decode cX5_rank 16 = .ok (.goto 9, 3) := dk_167 0 9 (dk_at dksX5_rank_0 16 rfl rfl)
theorem dX5_rank_19 : decode cX5_rank 19 = .ok (.aload_n 0, 1) := dk_42 (dk_at dksX5_rank_0 19 rfl rfl)
theorem dX5_rank_20 : decode cX5_rank 20 = .ok (.getfield 19, 3) := dk_180 0 19 (dk_at dksX5_rank_0 20 rfl rfl)
theorem dX5_rank_23 : decode cX5_rank 23 = .ok (.iload_n 1, 1) := dk_27 (dk_at dksX5_rank_0 23 rfl rfl)
theorem dX5_rank_24 : decode cX5_rank 24 = .ok (.iaload, 1) := dk_46 (dk_at dksX5_rank_1 0 rfl rfl)
theorem dX5_rank_25 : decode cX5_rank 25 = .ok (.ireturn, 1) := dk_172 (dk_at dksX5_rank_1 1 rfl rfl)
theorem dX5_rank_26 : decode cX5_rank 26 = .ok (.iconst 0, 1) := dk_3 (dk_at dksX5_rank_1 2 rfl rfl)
theorem dX5_rank_27 : decode cX5_rank 27 = .ok (.istore_n 3, 1) := dk_62 (dk_at dksX5_rank_1 3 rfl rfl)
theorem dX5_rank_28 : decode cX5_rank 28 = .ok (.iconst 0, 1) := dk_3 (dk_at dksX5_rank_1 4 rfl rfl)
theorem dX5_rank_29 : decode cX5_rank 29 = .ok (.istore 4, 2) := dk_54 4 (dk_at dksX5_rank_1 5 rfl rfl)
theorem dX5_rank_31 : decode cX5_rank 31 = .ok (.iload 4, 2) := dk_21 4 (dk_at dksX5_rank_1 7 rfl rfl)
theorem dX5_rank_33 : decode cX5_rank 33 = .ok (.bipush 8, 2) := dk_16 8 (dk_at dksX5_rank_1 9 rfl rfl)
theorem dX5_rank_35 : decode cX5_rank 35 = .ok (.if_icmp .ge 24, 3) := dk_162 0 24 (dk_at dksX5_rank_1 11 rfl rfl)
theorem dX5_rank_38 : decode cX5_rank 38 = .ok (.iload_n 3, 1) := dk_29 (dk_at dksX5_rank_1 14 rfl rfl)
theorem dX5_rank_39 : decode cX5_rank 39 = .ok (.aload_n 0, 1) := dk_42 (dk_at dksX5_rank_1 15 rfl rfl)
theorem dX5_rank_40 : decode cX5_rank 40 = .ok (.getfield 31, 3) := dk_180 0 31 (dk_at dksX5_rank_1 16 rfl rfl)
theorem dX5_rank_43 : decode cX5_rank 43 = .ok (.bipush 8, 2) := dk_16 8 (dk_at dksX5_rank_1 19 rfl rfl)
theorem dX5_rank_45 : decode cX5_rank 45 = .ok (.iload_n 1, 1) := dk_27 (dk_at dksX5_rank_1 21 rfl rfl)
theorem dX5_rank_46 : decode cX5_rank 46 = .ok (.imul, 1) := dk_104 (dk_at dksX5_rank_1 22 rfl rfl)
theorem dX5_rank_47 : decode cX5_rank 47 = .ok (.iload 4, 2) := dk_21 4 (dk_at dksX5_rank_2 0 rfl rfl)
theorem dX5_rank_49 : decode cX5_rank 49 = .ok (.iadd, 1) := dk_96 (dk_at dksX5_rank_2 2 rfl rfl)
theorem dX5_rank_50 : decode cX5_rank 50 = .ok (.iaload, 1) := dk_46 (dk_at dksX5_rank_2 3 rfl rfl)
theorem dX5_rank_51 : decode cX5_rank 51 = .ok (.iadd, 1) := dk_96 (dk_at dksX5_rank_2 4 rfl rfl)
theorem dX5_rank_52 : decode cX5_rank 52 = .ok (.istore_n 3, 1) := dk_62 (dk_at dksX5_rank_2 5 rfl rfl)
theorem dX5_rank_53 : decode cX5_rank 53 = .ok (.iinc 4 1, 3) := dk_132 4 1 (dk_at dksX5_rank_2 6 rfl rfl)
theorem dX5_rank_56 : decode cX5_rank 56 = .ok (.goto (-25), 3) := dk_167 255 231 (dk_at dksX5_rank_2 9 rfl rfl)
theorem dX5_rank_59 : decode cX5_rank 59 = .ok (.iload_n 3, 1) := dk_29 (dk_at dksX5_rank_2 12 rfl rfl)
theorem dX5_rank_60 : decode cX5_rank 60 = .ok (.ireturn, 1) := dk_172 (dk_at dksX5_rank_2 13 rfl rfl)
abbrev cX5_next_2 : ByteArray := prog_17_method_87_code
def yX5_next_2 : MethodName := ⟨RX5, "next", "(I)I"⟩
def dkwX5_next_2_1 : List UInt8 := [46, 172]
abbrev dktX5_next_2_1 : List UInt8 := dkwX5_next_2_1 ++ []
def dkwX5_next_2_0 : List UInt8 := [42, 27, 182, 0, 110, 154, 0, 10, 42, 16, 254, 182, 0, 96, 172, 42, 182, 1, 31, 42, 180, 0, 75, 27]
abbrev dktX5_next_2_0 : List UInt8 := dkwX5_next_2_0 ++ dktX5_next_2_1
theorem dksX5_next_2_0 : cX5_next_2.data.toList.drop 0 = dktX5_next_2_0 := by decide +kernel
theorem dksX5_next_2_1 : cX5_next_2.data.toList.drop 24 = dktX5_next_2_1 := dk_seg dksX5_next_2_0 24 rfl rfl
theorem dX5_next_2_0 : decode cX5_next_2 0 = .ok (.aload_n 0, 1) := dk_42 (dk_at dksX5_next_2_0 0 rfl rfl)
theorem dX5_next_2_1 : decode cX5_next_2 1 = .ok (.iload_n 1, 1) := dk_27 (dk_at dksX5_next_2_0 1 rfl rfl)
theorem dX5_next_2_2 : decode cX5_next_2 2 = .ok (.invokevirtual 110, 3) := dk_182 0 110 (dk_at dksX5_next_2_0 2 rfl rfl)
theorem dX5_next_2_5 : decode cX5_next_2 5 = .ok (.ifCond .ne 10, 3) := dk_154 0 10 (dk_at dksX5_next_2_0 5 rfl rfl)
theorem dX5_next_2_8 : decode cX5_next_2 8 = .ok (.aload_n 0, 1) := dk_42 (dk_at dksX5_next_2_0 8 rfl rfl)
theorem dX5_next_2_9 : decode cX5_next_2 9 = .ok (.bipush (-2), 2) := dk_16 254 (dk_at dksX5_next_2_0 9 rfl rfl)
theorem dX5_next_2_11 : decode cX5_next_2 11 = .ok (.invokevirtual 96, 3) := dk_182 0 96 (dk_at dksX5_next_2_0 11 rfl rfl)
theorem dX5_next_2_14 : decode cX5_next_2 14 = .ok (.ireturn, 1) := dk_172 (dk_at dksX5_next_2_0 14 rfl rfl)
theorem dX5_next_2_15 : decode cX5_next_2 15 = .ok (.aload_n 0, 1) := dk_42 (dk_at dksX5_next_2_0 15 rfl rfl)
theorem dX5_next_2_16 : decode cX5_next_2 16 = .ok (.invokevirtual 287, 3) := dk_182 1 31 (dk_at dksX5_next_2_0 16 rfl rfl)
theorem dX5_next_2_19 : decode cX5_next_2 19 = .ok (.aload_n 0, 1) := dk_42 (dk_at dksX5_next_2_0 19 rfl rfl)
theorem dX5_next_2_20 : decode cX5_next_2 20 = .ok (.getfield 75, 3) := dk_180 0 75 (dk_at dksX5_next_2_0 20 rfl rfl)
theorem dX5_next_2_23 : decode cX5_next_2 23 = .ok (.iload_n 1, 1) := dk_27 (dk_at dksX5_next_2_0 23 rfl rfl)
theorem dX5_next_2_24 : decode cX5_next_2 24 = .ok (.iaload, 1) := dk_46 (dk_at dksX5_next_2_1 0 rfl rfl)
theorem dX5_next_2_25 : decode cX5_next_2 25 = .ok (.ireturn, 1) := dk_172 (dk_at dksX5_next_2_1 1 rfl rfl)
abbrev cX5_swaps : ByteArray := prog_17_method_86_code
def yX5_swaps : MethodName := ⟨RX5, "swaps", "()V"⟩
def dkwX5_swaps_8 : List UInt8 := [132, 3, 1, 167, 255, 207, 167, 255, 121, 177]
abbrev dktX5_swaps_8 : List UInt8 := dkwX5_swaps_8 ++ []
def dkwX5_swaps_7 : List UInt8 := [29, 42, 180, 0, 28, 42, 180, 0, 68, 29, 46, 46, 79, 42, 180, 0, 71, 29, 4, 84, 132, 1, 255]
abbrev dktX5_swaps_7 : List UInt8 := dkwX5_swaps_7 ++ dktX5_swaps_8
def dkwX5_swaps_6 : List UInt8 := [62, 29, 42, 180, 0, 89, 162, 0, 47, 28, 29, 184, 0, 194, 154, 0, 6, 167, 0, 30, 42, 180, 0, 75]
abbrev dktX5_swaps_6 : List UInt8 := dkwX5_swaps_6 ++ dktX5_swaps_7
def dkwX5_swaps_5 : List UInt8 := [154, 0, 17, 42, 29, 182, 1, 28, 153, 0, 9, 28, 4, 29, 120, 128, 61, 132, 3, 1, 167, 255, 222, 3]
abbrev dktX5_swaps_5 : List UInt8 := dkwX5_swaps_5 ++ dktX5_swaps_6
def dkwX5_swaps_4 : List UInt8 := [132, 2, 1, 167, 255, 225, 3, 61, 3, 62, 29, 42, 180, 0, 89, 162, 0, 32, 42, 180, 0, 71, 29, 51]
abbrev dktX5_swaps_4 : List UInt8 := dkwX5_swaps_4 ++ dktX5_swaps_5
def dkwX5_swaps_3 : List UInt8 := [162, 0, 29, 42, 180, 0, 71, 28, 51, 154, 0, 14, 42, 180, 0, 68, 28, 42, 28, 182, 1, 25, 79]
abbrev dktX5_swaps_3 : List UInt8 := dkwX5_swaps_3 ++ dktX5_swaps_4
def dkwX5_swaps_2 : List UInt8 := [154, 0, 6, 132, 1, 1, 132, 2, 1, 167, 255, 205, 27, 158, 0, 137, 3, 61, 28, 42, 180, 0, 89]
abbrev dktX5_swaps_2 : List UInt8 := dkwX5_swaps_2 ++ dktX5_swaps_3
def dkwX5_swaps_1 : List UInt8 := [160, 0, 7, 4, 167, 0, 4, 3, 84, 42, 180, 0, 75, 28, 2, 79, 42, 180, 0, 71, 28, 51]
abbrev dktX5_swaps_1 : List UInt8 := dkwX5_swaps_1 ++ dktX5_swaps_2
def dkwX5_swaps_0 : List UInt8 := [3, 60, 3, 61, 28, 42, 180, 0, 89, 162, 0, 49, 42, 180, 0, 71, 28, 42, 180, 0, 28, 28, 46, 2]
abbrev dktX5_swaps_0 : List UInt8 := dkwX5_swaps_0 ++ dktX5_swaps_1
theorem dksX5_swaps_0 : cX5_swaps.data.toList.drop 0 = dktX5_swaps_0 := by decide +kernel
theorem dksX5_swaps_1 : cX5_swaps.data.toList.drop 24 = dktX5_swaps_1 := dk_seg dksX5_swaps_0 24 rfl rfl
theorem dksX5_swaps_2 : cX5_swaps.data.toList.drop 46 = dktX5_swaps_2 := dk_seg dksX5_swaps_1 22 rfl rfl
theorem dksX5_swaps_3 : cX5_swaps.data.toList.drop 69 = dktX5_swaps_3 := dk_seg dksX5_swaps_2 23 rfl rfl
theorem dksX5_swaps_4 : cX5_swaps.data.toList.drop 92 = dktX5_swaps_4 := dk_seg dksX5_swaps_3 23 rfl rfl
theorem dksX5_swaps_5 : cX5_swaps.data.toList.drop 116 = dktX5_swaps_5 := dk_seg dksX5_swaps_4 24 rfl rfl
theorem dksX5_swaps_6 : cX5_swaps.data.toList.drop 140 = dktX5_swaps_6 := dk_seg dksX5_swaps_5 24 rfl rfl
theorem dksX5_swaps_7 : cX5_swaps.data.toList.drop 164 = dktX5_swaps_7 := dk_seg dksX5_swaps_6 24 rfl rfl
theorem dksX5_swaps_8 : cX5_swaps.data.toList.drop 187 = dktX5_swaps_8 := dk_seg dksX5_swaps_7 23 rfl rfl
theorem dX5_swaps_0 : decode cX5_swaps 0 = .ok (.iconst 0, 1) := dk_3 (dk_at dksX5_swaps_0 0 rfl rfl)
theorem dX5_swaps_1 : decode cX5_swaps 1 = .ok (.istore_n 1, 1) := dk_60 (dk_at dksX5_swaps_0 1 rfl rfl)
theorem dX5_swaps_2 : decode cX5_swaps 2 = .ok (.iconst 0, 1) := dk_3 (dk_at dksX5_swaps_0 2 rfl rfl)
theorem dX5_swaps_3 : decode cX5_swaps 3 = .ok (.istore_n 2, 1) := dk_61 (dk_at dksX5_swaps_0 3 rfl rfl)
theorem dX5_swaps_4 : decode cX5_swaps 4 = .ok (.iload_n 2, 1) := dk_28 (dk_at dksX5_swaps_0 4 rfl rfl)
theorem dX5_swaps_5 : decode cX5_swaps 5 = .ok (.aload_n 0, 1) := dk_42 (dk_at dksX5_swaps_0 5 rfl rfl)
theorem dX5_swaps_6 : decode cX5_swaps 6 = .ok (.getfield 89, 3) := dk_180 0 89 (dk_at dksX5_swaps_0 6 rfl rfl)
theorem dX5_swaps_9 : decode cX5_swaps 9 = .ok (.if_icmp .ge 49, 3) := dk_162 0 49 (dk_at dksX5_swaps_0 9 rfl rfl)
theorem dX5_swaps_12 : decode cX5_swaps 12 = .ok (.aload_n 0, 1) := dk_42 (dk_at dksX5_swaps_0 12 rfl rfl)
theorem dX5_swaps_13 : decode cX5_swaps 13 = .ok (.getfield 71, 3) := dk_180 0 71 (dk_at dksX5_swaps_0 13 rfl rfl)
theorem dX5_swaps_16 : decode cX5_swaps 16 = .ok (.iload_n 2, 1) := dk_28 (dk_at dksX5_swaps_0 16 rfl rfl)
theorem dX5_swaps_17 : decode cX5_swaps 17 = .ok (.aload_n 0, 1) := dk_42 (dk_at dksX5_swaps_0 17 rfl rfl)
theorem dX5_swaps_18 : decode cX5_swaps 18 = .ok (.getfield 28, 3) := dk_180 0 28 (dk_at dksX5_swaps_0 18 rfl rfl)
theorem dX5_swaps_21 : decode cX5_swaps 21 = .ok (.iload_n 2, 1) := dk_28 (dk_at dksX5_swaps_0 21 rfl rfl)
theorem dX5_swaps_22 : decode cX5_swaps 22 = .ok (.iaload, 1) := dk_46 (dk_at dksX5_swaps_0 22 rfl rfl)
theorem dX5_swaps_23 : decode cX5_swaps 23 = .ok (.iconst (-1), 1) := dk_2 (dk_at dksX5_swaps_0 23 rfl rfl)
theorem dX5_swaps_24 : decode cX5_swaps 24 = .ok (.if_icmp .ne 7, 3) := dk_160 0 7 (dk_at dksX5_swaps_1 0 rfl rfl)
theorem dX5_swaps_27 : decode cX5_swaps 27 = .ok (.iconst 1, 1) := dk_4 (dk_at dksX5_swaps_1 3 rfl rfl)
theorem dX5_swaps_28 : decode cX5_swaps 28 = .ok (.goto 4, 3) := dk_167 0 4 (dk_at dksX5_swaps_1 4 rfl rfl)
theorem dX5_swaps_31 : decode cX5_swaps 31 = .ok (.iconst 0, 1) := dk_3 (dk_at dksX5_swaps_1 7 rfl rfl)
theorem dX5_swaps_32 : decode cX5_swaps 32 = .ok (.bastore, 1) := dk_84 (dk_at dksX5_swaps_1 8 rfl rfl)
theorem dX5_swaps_33 : decode cX5_swaps 33 = .ok (.aload_n 0, 1) := dk_42 (dk_at dksX5_swaps_1 9 rfl rfl)
theorem dX5_swaps_34 : decode cX5_swaps 34 = .ok (.getfield 75, 3) := dk_180 0 75 (dk_at dksX5_swaps_1 10 rfl rfl)
theorem dX5_swaps_37 : decode cX5_swaps 37 = .ok (.iload_n 2, 1) := dk_28 (dk_at dksX5_swaps_1 13 rfl rfl)
theorem dX5_swaps_38 : decode cX5_swaps 38 = .ok (.iconst (-1), 1) := dk_2 (dk_at dksX5_swaps_1 14 rfl rfl)
theorem dX5_swaps_39 : decode cX5_swaps 39 = .ok (.iastore, 1) := dk_79 (dk_at dksX5_swaps_1 15 rfl rfl)
theorem dX5_swaps_40 : decode cX5_swaps 40 = .ok (.aload_n 0, 1) := dk_42 (dk_at dksX5_swaps_1 16 rfl rfl)
theorem dX5_swaps_41 : decode cX5_swaps 41 = .ok (.getfield 71, 3) := dk_180 0 71 (dk_at dksX5_swaps_1 17 rfl rfl)
theorem dX5_swaps_44 : decode cX5_swaps 44 = .ok (.iload_n 2, 1) := dk_28 (dk_at dksX5_swaps_1 20 rfl rfl)
theorem dX5_swaps_45 : decode cX5_swaps 45 = .ok (.baload, 1) := dk_51 (dk_at dksX5_swaps_1 21 rfl rfl)
theorem dX5_swaps_46 : decode cX5_swaps 46 = .ok (.ifCond .ne 6, 3) := dk_154 0 6 (dk_at dksX5_swaps_2 0 rfl rfl)
theorem dX5_swaps_49 : decode cX5_swaps 49 = .ok (.iinc 1 1, 3) := dk_132 1 1 (dk_at dksX5_swaps_2 3 rfl rfl)
theorem dX5_swaps_52 : decode cX5_swaps 52 = .ok (.iinc 2 1, 3) := dk_132 2 1 (dk_at dksX5_swaps_2 6 rfl rfl)
theorem dX5_swaps_55 : decode cX5_swaps 55 = .ok (.goto (-51), 3) := dk_167 255 205 (dk_at dksX5_swaps_2 9 rfl rfl)
theorem dX5_swaps_58 : decode cX5_swaps 58 = .ok (.iload_n 1, 1) := dk_27 (dk_at dksX5_swaps_2 12 rfl rfl)
theorem dX5_swaps_59 : decode cX5_swaps 59 = .ok (.ifCond .le 137, 3) := dk_158 0 137 (dk_at dksX5_swaps_2 13 rfl rfl)
theorem dX5_swaps_62 : decode cX5_swaps 62 = .ok (.iconst 0, 1) := dk_3 (dk_at dksX5_swaps_2 16 rfl rfl)
theorem dX5_swaps_63 : decode cX5_swaps 63 = .ok (.istore_n 2, 1) := dk_61 (dk_at dksX5_swaps_2 17 rfl rfl)
theorem dX5_swaps_64 : decode cX5_swaps 64 = .ok (.iload_n 2, 1) := dk_28 (dk_at dksX5_swaps_2 18 rfl rfl)
theorem dX5_swaps_65 : decode cX5_swaps 65 = .ok (.aload_n 0, 1) := dk_42 (dk_at dksX5_swaps_2 19 rfl rfl)
theorem dX5_swaps_66 : decode cX5_swaps 66 = .ok (.getfield 89, 3) := dk_180 0 89 (dk_at dksX5_swaps_2 20 rfl rfl)
theorem dX5_swaps_69 : decode cX5_swaps 69 = .ok (.if_icmp .ge 29, 3) := dk_162 0 29 (dk_at dksX5_swaps_3 0 rfl rfl)
theorem dX5_swaps_72 : decode cX5_swaps 72 = .ok (.aload_n 0, 1) := dk_42 (dk_at dksX5_swaps_3 3 rfl rfl)
theorem dX5_swaps_73 : decode cX5_swaps 73 = .ok (.getfield 71, 3) := dk_180 0 71 (dk_at dksX5_swaps_3 4 rfl rfl)
theorem dX5_swaps_76 : decode cX5_swaps 76 = .ok (.iload_n 2, 1) := dk_28 (dk_at dksX5_swaps_3 7 rfl rfl)
theorem dX5_swaps_77 : decode cX5_swaps 77 = .ok (.baload, 1) := dk_51 (dk_at dksX5_swaps_3 8 rfl rfl)
theorem dX5_swaps_78 : decode cX5_swaps 78 = .ok (.ifCond .ne 14, 3) := dk_154 0 14 (dk_at dksX5_swaps_3 9 rfl rfl)
theorem dX5_swaps_81 : decode cX5_swaps 81 = .ok (.aload_n 0, 1) := dk_42 (dk_at dksX5_swaps_3 12 rfl rfl)
theorem dX5_swaps_82 : decode cX5_swaps 82 = .ok (.getfield 68, 3) := dk_180 0 68 (dk_at dksX5_swaps_3 13 rfl rfl)
theorem dX5_swaps_85 : decode cX5_swaps 85 = .ok (.iload_n 2, 1) := dk_28 (dk_at dksX5_swaps_3 16 rfl rfl)
theorem dX5_swaps_86 : decode cX5_swaps 86 = .ok (.aload_n 0, 1) := dk_42 (dk_at dksX5_swaps_3 17 rfl rfl)
theorem dX5_swaps_87 : decode cX5_swaps 87 = .ok (.iload_n 2, 1) := dk_28 (dk_at dksX5_swaps_3 18 rfl rfl)
theorem dX5_swaps_88 : decode cX5_swaps 88 = .ok (.invokevirtual 281, 3) := dk_182 1 25 (dk_at dksX5_swaps_3 19 rfl rfl)
theorem dX5_swaps_91 : decode cX5_swaps 91 = .ok (.iastore, 1) := dk_79 (dk_at dksX5_swaps_3 22 rfl rfl)
theorem dX5_swaps_92 : decode cX5_swaps 92 = .ok (.iinc 2 1, 3) := dk_132 2 1 (dk_at dksX5_swaps_4 0 rfl rfl)
theorem dX5_swaps_95 : decode cX5_swaps 95 = .ok (.goto (-31), 3) := dk_167 255 225 (dk_at dksX5_swaps_4 3 rfl rfl)
theorem dX5_swaps_98 : decode cX5_swaps 98 = .ok (.iconst 0, 1) := dk_3 (dk_at dksX5_swaps_4 6 rfl rfl)
theorem dX5_swaps_99 : decode cX5_swaps 99 = .ok (.istore_n 2, 1) := dk_61 (dk_at dksX5_swaps_4 7 rfl rfl)
theorem dX5_swaps_100 : decode cX5_swaps 100 = .ok (.iconst 0, 1) := dk_3 (dk_at dksX5_swaps_4 8 rfl rfl)
theorem dX5_swaps_101 : decode cX5_swaps 101 = .ok (.istore_n 3, 1) := dk_62 (dk_at dksX5_swaps_4 9 rfl rfl)
theorem dX5_swaps_102 : decode cX5_swaps 102 = .ok (.iload_n 3, 1) := dk_29 (dk_at dksX5_swaps_4 10 rfl rfl)
theorem dX5_swaps_103 : decode cX5_swaps 103 = .ok (.aload_n 0, 1) := dk_42 (dk_at dksX5_swaps_4 11 rfl rfl)
theorem dX5_swaps_104 : decode cX5_swaps 104 = .ok (.getfield 89, 3) := dk_180 0 89 (dk_at dksX5_swaps_4 12 rfl rfl)
theorem dX5_swaps_107 : decode cX5_swaps 107 = .ok (.if_icmp .ge 32, 3) := dk_162 0 32 (dk_at dksX5_swaps_4 15 rfl rfl)
theorem dX5_swaps_110 : decode cX5_swaps 110 = .ok (.aload_n 0, 1) := dk_42 (dk_at dksX5_swaps_4 18 rfl rfl)
theorem dX5_swaps_111 : decode cX5_swaps 111 = .ok (.getfield 71, 3) := dk_180 0 71 (dk_at dksX5_swaps_4 19 rfl rfl)
theorem dX5_swaps_114 : decode cX5_swaps 114 = .ok (.iload_n 3, 1) := dk_29 (dk_at dksX5_swaps_4 22 rfl rfl)
theorem dX5_swaps_115 : decode cX5_swaps 115 = .ok (.baload, 1) := dk_51 (dk_at dksX5_swaps_4 23 rfl rfl)
theorem dX5_swaps_116 : decode cX5_swaps 116 = .ok (.ifCond .ne 17, 3) := dk_154 0 17 (dk_at dksX5_swaps_5 0 rfl rfl)
theorem dX5_swaps_119 : decode cX5_swaps 119 = .ok (.aload_n 0, 1) := dk_42 (dk_at dksX5_swaps_5 3 rfl rfl)
theorem dX5_swaps_120 : decode cX5_swaps 120 = .ok (.iload_n 3, 1) := dk_29 (dk_at dksX5_swaps_5 4 rfl rfl)
theorem dX5_swaps_121 : decode cX5_swaps 121 = .ok (.invokevirtual 284, 3) := dk_182 1 28 (dk_at dksX5_swaps_5 5 rfl rfl)
theorem dX5_swaps_124 : decode cX5_swaps 124 = .ok (.ifCond .eq 9, 3) := dk_153 0 9 (dk_at dksX5_swaps_5 8 rfl rfl)
theorem dX5_swaps_127 : decode cX5_swaps 127 = .ok (.iload_n 2, 1) := dk_28 (dk_at dksX5_swaps_5 11 rfl rfl)
theorem dX5_swaps_128 : decode cX5_swaps 128 = .ok (.iconst 1, 1) := dk_4 (dk_at dksX5_swaps_5 12 rfl rfl)
theorem dX5_swaps_129 : decode cX5_swaps 129 = .ok (.iload_n 3, 1) := dk_29 (dk_at dksX5_swaps_5 13 rfl rfl)
theorem dX5_swaps_130 : decode cX5_swaps 130 = .ok (.ishl, 1) := dk_120 (dk_at dksX5_swaps_5 14 rfl rfl)
theorem dX5_swaps_131 : decode cX5_swaps 131 = .ok (.ior, 1) := dk_128 (dk_at dksX5_swaps_5 15 rfl rfl)
theorem dX5_swaps_132 : decode cX5_swaps 132 = .ok (.istore_n 2, 1) := dk_61 (dk_at dksX5_swaps_5 16 rfl rfl)
theorem dX5_swaps_133 : decode cX5_swaps 133 = .ok (.iinc 3 1, 3) := dk_132 3 1 (dk_at dksX5_swaps_5 17 rfl rfl)
theorem dX5_swaps_136 : decode cX5_swaps 136 = .ok (.goto (-34), 3) := dk_167 255 222 (dk_at dksX5_swaps_5 20 rfl rfl)
theorem dX5_swaps_139 : decode cX5_swaps 139 = .ok (.iconst 0, 1) := dk_3 (dk_at dksX5_swaps_5 23 rfl rfl)
theorem dX5_swaps_140 : decode cX5_swaps 140 = .ok (.istore_n 3, 1) := dk_62 (dk_at dksX5_swaps_6 0 rfl rfl)
theorem dX5_swaps_141 : decode cX5_swaps 141 = .ok (.iload_n 3, 1) := dk_29 (dk_at dksX5_swaps_6 1 rfl rfl)
theorem dX5_swaps_142 : decode cX5_swaps 142 = .ok (.aload_n 0, 1) := dk_42 (dk_at dksX5_swaps_6 2 rfl rfl)
theorem dX5_swaps_143 : decode cX5_swaps 143 = .ok (.getfield 89, 3) := dk_180 0 89 (dk_at dksX5_swaps_6 3 rfl rfl)
theorem dX5_swaps_146 : decode cX5_swaps 146 = .ok (.if_icmp .ge 47, 3) := dk_162 0 47 (dk_at dksX5_swaps_6 6 rfl rfl)
theorem dX5_swaps_149 : decode cX5_swaps 149 = .ok (.iload_n 2, 1) := dk_28 (dk_at dksX5_swaps_6 9 rfl rfl)
theorem dX5_swaps_150 : decode cX5_swaps 150 = .ok (.iload_n 3, 1) := dk_29 (dk_at dksX5_swaps_6 10 rfl rfl)
theorem dX5_swaps_151 : decode cX5_swaps 151 = .ok (.invokestatic 194, 3) := dk_184 0 194 (dk_at dksX5_swaps_6 11 rfl rfl)
theorem dX5_swaps_154 : decode cX5_swaps 154 = .ok (.ifCond .ne 6, 3) := dk_154 0 6 (dk_at dksX5_swaps_6 14 rfl rfl)
theorem dX5_swaps_157 : decode cX5_swaps 157 = .ok (.goto 30, 3) := dk_167 0 30 (dk_at dksX5_swaps_6 17 rfl rfl)
theorem dX5_swaps_160 : decode cX5_swaps 160 = .ok (.aload_n 0, 1) := dk_42 (dk_at dksX5_swaps_6 20 rfl rfl)
theorem dX5_swaps_161 : decode cX5_swaps 161 = .ok (.getfield 75, 3) := dk_180 0 75 (dk_at dksX5_swaps_6 21 rfl rfl)
theorem dX5_swaps_164 : decode cX5_swaps 164 = .ok (.iload_n 3, 1) := dk_29 (dk_at dksX5_swaps_7 0 rfl rfl)
theorem dX5_swaps_165 : decode cX5_swaps 165 = .ok (.aload_n 0, 1) := dk_42 (dk_at dksX5_swaps_7 1 rfl rfl)
theorem dX5_swaps_166 : decode cX5_swaps 166 = .ok (.getfield 28, 3) := dk_180 0 28 (dk_at dksX5_swaps_7 2 rfl rfl)
theorem dX5_swaps_169 : decode cX5_swaps 169 = .ok (.aload_n 0, 1) := dk_42 (dk_at dksX5_swaps_7 5 rfl rfl)
theorem dX5_swaps_170 : decode cX5_swaps 170 = .ok (.getfield 68, 3) := dk_180 0 68 (dk_at dksX5_swaps_7 6 rfl rfl)
theorem dX5_swaps_173 : decode cX5_swaps 173 = .ok (.iload_n 3, 1) := dk_29 (dk_at dksX5_swaps_7 9 rfl rfl)
theorem dX5_swaps_174 : decode cX5_swaps 174 = .ok (.iaload, 1) := dk_46 (dk_at dksX5_swaps_7 10 rfl rfl)
theorem dX5_swaps_175 : decode cX5_swaps 175 = .ok (.iaload, 1) := dk_46 (dk_at dksX5_swaps_7 11 rfl rfl)
theorem dX5_swaps_176 : decode cX5_swaps 176 = .ok (.iastore, 1) := dk_79 (dk_at dksX5_swaps_7 12 rfl rfl)
theorem dX5_swaps_177 : decode cX5_swaps 177 = .ok (.aload_n 0, 1) := dk_42 (dk_at dksX5_swaps_7 13 rfl rfl)
theorem dX5_swaps_178 : decode cX5_swaps 178 = .ok (.getfield 71, 3) := dk_180 0 71 (dk_at dksX5_swaps_7 14 rfl rfl)
theorem dX5_swaps_181 : decode cX5_swaps 181 = .ok (.iload_n 3, 1) := dk_29 (dk_at dksX5_swaps_7 17 rfl rfl)
theorem dX5_swaps_182 : decode cX5_swaps 182 = .ok (.iconst 1, 1) := dk_4 (dk_at dksX5_swaps_7 18 rfl rfl)
theorem dX5_swaps_183 : decode cX5_swaps 183 = .ok (.bastore, 1) := dk_84 (dk_at dksX5_swaps_7 19 rfl rfl)
theorem dX5_swaps_184 : decode cX5_swaps 184 = .ok (.iinc 1 (-1), 3) := dk_132 1 255 (dk_at dksX5_swaps_7 20 rfl rfl)
theorem dX5_swaps_187 : decode cX5_swaps 187 = .ok (.iinc 3 1, 3) := dk_132 3 1 (dk_at dksX5_swaps_8 0 rfl rfl)
theorem dX5_swaps_190 : decode cX5_swaps 190 = .ok (.goto (-49), 3) := dk_167 255 207 (dk_at dksX5_swaps_8 3 rfl rfl)
theorem dX5_swaps_193 : decode cX5_swaps 193 = .ok (.goto (-135), 3) := dk_167 255 121 (dk_at dksX5_swaps_8 6 rfl rfl)
theorem dX5_swaps_196 : decode cX5_swaps 196 = .ok (.return_, 1) := dk_177 (dk_at dksX5_swaps_8 9 rfl rfl)
abbrev cX5_wishOf : ByteArray := prog_17_method_84_code
def yX5_wishOf : MethodName := ⟨RX5, "wishOf", "(I)I"⟩
def dkwX5_wishOf_2 : List UInt8 := [167, 255, 223, 28, 2, 160, 0, 7, 27, 167, 0, 4, 28, 172]
abbrev dktX5_wishOf_2 : List UInt8 := dkwX5_wishOf_2 ++ []
def dkwX5_wishOf_1 : List UInt8 := [42, 180, 0, 22, 27, 46, 29, 184, 0, 194, 153, 0, 9, 42, 29, 182, 1, 22, 61, 132, 3, 1]
abbrev dktX5_wishOf_1 : List UInt8 := dkwX5_wishOf_1 ++ dktX5_wishOf_2
def dkwX5_wishOf_0 : List UInt8 := [42, 42, 180, 0, 16, 27, 46, 182, 1, 22, 61, 3, 62, 29, 16, 8, 162, 0, 33, 28, 2, 160, 0, 28]
abbrev dktX5_wishOf_0 : List UInt8 := dkwX5_wishOf_0 ++ dktX5_wishOf_1
theorem dksX5_wishOf_0 : cX5_wishOf.data.toList.drop 0 = dktX5_wishOf_0 := by decide +kernel
theorem dksX5_wishOf_1 : cX5_wishOf.data.toList.drop 24 = dktX5_wishOf_1 := dk_seg dksX5_wishOf_0 24 rfl rfl
theorem dksX5_wishOf_2 : cX5_wishOf.data.toList.drop 46 = dktX5_wishOf_2 := dk_seg dksX5_wishOf_1 22 rfl rfl
theorem dX5_wishOf_0 : decode cX5_wishOf 0 = .ok (.aload_n 0, 1) := dk_42 (dk_at dksX5_wishOf_0 0 rfl rfl)
theorem dX5_wishOf_1 : decode cX5_wishOf 1 = .ok (.aload_n 0, 1) := dk_42 (dk_at dksX5_wishOf_0 1 rfl rfl)
theorem dX5_wishOf_2 : decode cX5_wishOf 2 = .ok (.getfield 16, 3) := dk_180 0 16 (dk_at dksX5_wishOf_0 2 rfl rfl)
theorem dX5_wishOf_5 : decode cX5_wishOf 5 = .ok (.iload_n 1, 1) := dk_27 (dk_at dksX5_wishOf_0 5 rfl rfl)
theorem dX5_wishOf_6 : decode cX5_wishOf 6 = .ok (.iaload, 1) := dk_46 (dk_at dksX5_wishOf_0 6 rfl rfl)
theorem dX5_wishOf_7 : decode cX5_wishOf 7 = .ok (.invokevirtual 278, 3) := dk_182 1 22 (dk_at dksX5_wishOf_0 7 rfl rfl)
theorem dX5_wishOf_10 : decode cX5_wishOf 10 = .ok (.istore_n 2, 1) := dk_61 (dk_at dksX5_wishOf_0 10 rfl rfl)
theorem dX5_wishOf_11 : decode cX5_wishOf 11 = .ok (.iconst 0, 1) := dk_3 (dk_at dksX5_wishOf_0 11 rfl rfl)
theorem dX5_wishOf_12 : decode cX5_wishOf 12 = .ok (.istore_n 3, 1) := dk_62 (dk_at dksX5_wishOf_0 12 rfl rfl)
theorem dX5_wishOf_13 : decode cX5_wishOf 13 = .ok (.iload_n 3, 1) := dk_29 (dk_at dksX5_wishOf_0 13 rfl rfl)
theorem dX5_wishOf_14 : decode cX5_wishOf 14 = .ok (.bipush 8, 2) := dk_16 8 (dk_at dksX5_wishOf_0 14 rfl rfl)
theorem dX5_wishOf_16 : decode cX5_wishOf 16 = .ok (.if_icmp .ge 33, 3) := dk_162 0 33 (dk_at dksX5_wishOf_0 16 rfl rfl)
theorem dX5_wishOf_19 : decode cX5_wishOf 19 = .ok (.iload_n 2, 1) := dk_28 (dk_at dksX5_wishOf_0 19 rfl rfl)
theorem dX5_wishOf_20 : decode cX5_wishOf 20 = .ok (.iconst (-1), 1) := dk_2 (dk_at dksX5_wishOf_0 20 rfl rfl)
theorem dX5_wishOf_21 : decode cX5_wishOf 21 = .ok (.if_icmp .ne 28, 3) := dk_160 0 28 (dk_at dksX5_wishOf_0 21 rfl rfl)
theorem dX5_wishOf_24 : decode cX5_wishOf 24 = .ok (.aload_n 0, 1) := dk_42 (dk_at dksX5_wishOf_1 0 rfl rfl)
theorem dX5_wishOf_25 : decode cX5_wishOf 25 = .ok (.getfield 22, 3) := dk_180 0 22 (dk_at dksX5_wishOf_1 1 rfl rfl)
theorem dX5_wishOf_28 : decode cX5_wishOf 28 = .ok (.iload_n 1, 1) := dk_27 (dk_at dksX5_wishOf_1 4 rfl rfl)
theorem dX5_wishOf_29 : decode cX5_wishOf 29 = .ok (.iaload, 1) := dk_46 (dk_at dksX5_wishOf_1 5 rfl rfl)
theorem dX5_wishOf_30 : decode cX5_wishOf 30 = .ok (.iload_n 3, 1) := dk_29 (dk_at dksX5_wishOf_1 6 rfl rfl)
theorem dX5_wishOf_31 : decode cX5_wishOf 31 = .ok (.invokestatic 194, 3) := dk_184 0 194 (dk_at dksX5_wishOf_1 7 rfl rfl)
theorem dX5_wishOf_34 : decode cX5_wishOf 34 = .ok (.ifCond .eq 9, 3) := dk_153 0 9 (dk_at dksX5_wishOf_1 10 rfl rfl)
theorem dX5_wishOf_37 : decode cX5_wishOf 37 = .ok (.aload_n 0, 1) := dk_42 (dk_at dksX5_wishOf_1 13 rfl rfl)
theorem dX5_wishOf_38 : decode cX5_wishOf 38 = .ok (.iload_n 3, 1) := dk_29 (dk_at dksX5_wishOf_1 14 rfl rfl)
theorem dX5_wishOf_39 : decode cX5_wishOf 39 = .ok (.invokevirtual 278, 3) := dk_182 1 22 (dk_at dksX5_wishOf_1 15 rfl rfl)
theorem dX5_wishOf_42 : decode cX5_wishOf 42 = .ok (.istore_n 2, 1) := dk_61 (dk_at dksX5_wishOf_1 18 rfl rfl)
theorem dX5_wishOf_43 : decode cX5_wishOf 43 = .ok (.iinc 3 1, 3) := dk_132 3 1 (dk_at dksX5_wishOf_1 19 rfl rfl)
theorem dX5_wishOf_46 : decode cX5_wishOf 46 = .ok (.goto (-33), 3) := dk_167 255 223 (dk_at dksX5_wishOf_2 0 rfl rfl)
theorem dX5_wishOf_49 : decode cX5_wishOf 49 = .ok (.iload_n 2, 1) := dk_28 (dk_at dksX5_wishOf_2 3 rfl rfl)
theorem dX5_wishOf_50 : decode cX5_wishOf 50 = .ok (.iconst (-1), 1) := dk_2 (dk_at dksX5_wishOf_2 4 rfl rfl)
theorem dX5_wishOf_51 : decode cX5_wishOf 51 = .ok (.if_icmp .ne 7, 3) := dk_160 0 7 (dk_at dksX5_wishOf_2 5 rfl rfl)
theorem dX5_wishOf_54 : decode cX5_wishOf 54 = .ok (.iload_n 1, 1) := dk_27 (dk_at dksX5_wishOf_2 8 rfl rfl)
theorem dX5_wishOf_55 : decode cX5_wishOf 55 = .ok (.goto 4, 3) := dk_167 0 4 (dk_at dksX5_wishOf_2 9 rfl rfl)
theorem dX5_wishOf_58 : decode cX5_wishOf 58 = .ok (.iload_n 2, 1) := dk_28 (dk_at dksX5_wishOf_2 12 rfl rfl)
theorem dX5_wishOf_59 : decode cX5_wishOf 59 = .ok (.ireturn, 1) := dk_172 (dk_at dksX5_wishOf_2 13 rfl rfl)
abbrev cX5_bringer : ByteArray := prog_17_method_83_code
def yX5_bringer : MethodName := ⟨RX5, "bringer", "(I)I"⟩
def dkwX5_bringer_1 : List UInt8 := [46, 27, 160, 0, 5, 28, 172, 132, 2, 1, 167, 255, 224, 2, 172]
abbrev dktX5_bringer_1 : List UInt8 := dkwX5_bringer_1 ++ []
def dkwX5_bringer_0 : List UInt8 := [3, 61, 28, 42, 180, 0, 89, 162, 0, 30, 42, 180, 0, 71, 28, 51, 154, 0, 15, 42, 180, 0, 28, 28]
abbrev dktX5_bringer_0 : List UInt8 := dkwX5_bringer_0 ++ dktX5_bringer_1
theorem dksX5_bringer_0 : cX5_bringer.data.toList.drop 0 = dktX5_bringer_0 := by decide +kernel
theorem dksX5_bringer_1 : cX5_bringer.data.toList.drop 24 = dktX5_bringer_1 := dk_seg dksX5_bringer_0 24 rfl rfl
theorem dX5_bringer_0 : decode cX5_bringer 0 = .ok (.iconst 0, 1) := dk_3 (dk_at dksX5_bringer_0 0 rfl rfl)
theorem dX5_bringer_1 : decode cX5_bringer 1 = .ok (.istore_n 2, 1) := dk_61 (dk_at dksX5_bringer_0 1 rfl rfl)
theorem dX5_bringer_2 : decode cX5_bringer 2 = .ok (.iload_n 2, 1) := dk_28 (dk_at dksX5_bringer_0 2 rfl rfl)
theorem dX5_bringer_3 : decode cX5_bringer 3 = .ok (.aload_n 0, 1) := dk_42 (dk_at dksX5_bringer_0 3 rfl rfl)
theorem dX5_bringer_4 : decode cX5_bringer 4 = .ok (.getfield 89, 3) := dk_180 0 89 (dk_at dksX5_bringer_0 4 rfl rfl)
theorem dX5_bringer_7 : decode cX5_bringer 7 = .ok (.if_icmp .ge 30, 3) := dk_162 0 30 (dk_at dksX5_bringer_0 7 rfl rfl)
theorem dX5_bringer_10 : decode cX5_bringer 10 = .ok (.aload_n 0, 1) := dk_42 (dk_at dksX5_bringer_0 10 rfl rfl)
theorem dX5_bringer_11 : decode cX5_bringer 11 = .ok (.getfield 71, 3) := dk_180 0 71 (dk_at dksX5_bringer_0 11 rfl rfl)
theorem dX5_bringer_14 : decode cX5_bringer 14 = .ok (.iload_n 2, 1) := dk_28 (dk_at dksX5_bringer_0 14 rfl rfl)
theorem dX5_bringer_15 : decode cX5_bringer 15 = .ok (.baload, 1) := dk_51 (dk_at dksX5_bringer_0 15 rfl rfl)
theorem dX5_bringer_16 : decode cX5_bringer 16 = .ok (.ifCond .ne 15, 3) := dk_154 0 15 (dk_at dksX5_bringer_0 16 rfl rfl)
theorem dX5_bringer_19 : decode cX5_bringer 19 = .ok (.aload_n 0, 1) := dk_42 (dk_at dksX5_bringer_0 19 rfl rfl)
theorem dX5_bringer_20 : decode cX5_bringer 20 = .ok (.getfield 28, 3) := dk_180 0 28 (dk_at dksX5_bringer_0 20 rfl rfl)
theorem dX5_bringer_23 : decode cX5_bringer 23 = .ok (.iload_n 2, 1) := dk_28 (dk_at dksX5_bringer_0 23 rfl rfl)
theorem dX5_bringer_24 : decode cX5_bringer 24 = .ok (.iaload, 1) := dk_46 (dk_at dksX5_bringer_1 0 rfl rfl)
theorem dX5_bringer_25 : decode cX5_bringer 25 = .ok (.iload_n 1, 1) := dk_27 (dk_at dksX5_bringer_1 1 rfl rfl)
theorem dX5_bringer_26 : decode cX5_bringer 26 = .ok (.if_icmp .ne 5, 3) := dk_160 0 5 (dk_at dksX5_bringer_1 2 rfl rfl)
theorem dX5_bringer_29 : decode cX5_bringer 29 = .ok (.iload_n 2, 1) := dk_28 (dk_at dksX5_bringer_1 5 rfl rfl)
theorem dX5_bringer_30 : decode cX5_bringer 30 = .ok (.ireturn, 1) := dk_172 (dk_at dksX5_bringer_1 6 rfl rfl)
theorem dX5_bringer_31 : decode cX5_bringer 31 = .ok (.iinc 2 1, 3) := dk_132 2 1 (dk_at dksX5_bringer_1 7 rfl rfl)
theorem dX5_bringer_34 : decode cX5_bringer 34 = .ok (.goto (-32), 3) := dk_167 255 224 (dk_at dksX5_bringer_1 10 rfl rfl)
theorem dX5_bringer_37 : decode cX5_bringer 37 = .ok (.iconst (-1), 1) := dk_2 (dk_at dksX5_bringer_1 13 rfl rfl)
theorem dX5_bringer_38 : decode cX5_bringer 38 = .ok (.ireturn, 1) := dk_172 (dk_at dksX5_bringer_1 14 rfl rfl)
abbrev cX5_isRing : ByteArray := prog_17_method_85_code
def yX5_isRing : MethodName := ⟨RX5, "isRing", "(I)Z"⟩
def dkwX5_isRing_1 : List UInt8 := [180, 0, 68, 28, 46, 61, 132, 3, 1, 167, 255, 233, 28, 27, 160, 0, 7, 4, 167, 0, 4, 3, 172]
abbrev dktX5_isRing_1 : List UInt8 := dkwX5_isRing_1 ++ []
def dkwX5_isRing_0 : List UInt8 := [42, 180, 0, 68, 27, 46, 61, 3, 62, 29, 42, 180, 0, 89, 162, 0, 21, 28, 27, 159, 0, 16, 42]
abbrev dktX5_isRing_0 : List UInt8 := dkwX5_isRing_0 ++ dktX5_isRing_1
theorem dksX5_isRing_0 : cX5_isRing.data.toList.drop 0 = dktX5_isRing_0 := by decide +kernel
theorem dksX5_isRing_1 : cX5_isRing.data.toList.drop 23 = dktX5_isRing_1 := dk_seg dksX5_isRing_0 23 rfl rfl
theorem dX5_isRing_0 : decode cX5_isRing 0 = .ok (.aload_n 0, 1) := dk_42 (dk_at dksX5_isRing_0 0 rfl rfl)
theorem dX5_isRing_1 : decode cX5_isRing 1 = .ok (.getfield 68, 3) := dk_180 0 68 (dk_at dksX5_isRing_0 1 rfl rfl)
theorem dX5_isRing_4 : decode cX5_isRing 4 = .ok (.iload_n 1, 1) := dk_27 (dk_at dksX5_isRing_0 4 rfl rfl)
theorem dX5_isRing_5 : decode cX5_isRing 5 = .ok (.iaload, 1) := dk_46 (dk_at dksX5_isRing_0 5 rfl rfl)
theorem dX5_isRing_6 : decode cX5_isRing 6 = .ok (.istore_n 2, 1) := dk_61 (dk_at dksX5_isRing_0 6 rfl rfl)
theorem dX5_isRing_7 : decode cX5_isRing 7 = .ok (.iconst 0, 1) := dk_3 (dk_at dksX5_isRing_0 7 rfl rfl)
theorem dX5_isRing_8 : decode cX5_isRing 8 = .ok (.istore_n 3, 1) := dk_62 (dk_at dksX5_isRing_0 8 rfl rfl)
theorem dX5_isRing_9 : decode cX5_isRing 9 = .ok (.iload_n 3, 1) := dk_29 (dk_at dksX5_isRing_0 9 rfl rfl)
theorem dX5_isRing_10 : decode cX5_isRing 10 = .ok (.aload_n 0, 1) := dk_42 (dk_at dksX5_isRing_0 10 rfl rfl)
theorem dX5_isRing_11 : decode cX5_isRing 11 = .ok (.getfield 89, 3) := dk_180 0 89 (dk_at dksX5_isRing_0 11 rfl rfl)
theorem dX5_isRing_14 : decode cX5_isRing 14 = .ok (.if_icmp .ge 21, 3) := dk_162 0 21 (dk_at dksX5_isRing_0 14 rfl rfl)
theorem dX5_isRing_17 : decode cX5_isRing 17 = .ok (.iload_n 2, 1) := dk_28 (dk_at dksX5_isRing_0 17 rfl rfl)
theorem dX5_isRing_18 : decode cX5_isRing 18 = .ok (.iload_n 1, 1) := dk_27 (dk_at dksX5_isRing_0 18 rfl rfl)
theorem dX5_isRing_19 : decode cX5_isRing 19 = .ok (.if_icmp .eq 16, 3) := dk_159 0 16 (dk_at dksX5_isRing_0 19 rfl rfl)
theorem dX5_isRing_22 : decode cX5_isRing 22 = .ok (.aload_n 0, 1) := dk_42 (dk_at dksX5_isRing_0 22 rfl rfl)
theorem dX5_isRing_23 : decode cX5_isRing 23 = .ok (.getfield 68, 3) := dk_180 0 68 (dk_at dksX5_isRing_1 0 rfl rfl)
theorem dX5_isRing_26 : decode cX5_isRing 26 = .ok (.iload_n 2, 1) := dk_28 (dk_at dksX5_isRing_1 3 rfl rfl)
theorem dX5_isRing_27 : decode cX5_isRing 27 = .ok (.iaload, 1) := dk_46 (dk_at dksX5_isRing_1 4 rfl rfl)
theorem dX5_isRing_28 : decode cX5_isRing 28 = .ok (.istore_n 2, 1) := dk_61 (dk_at dksX5_isRing_1 5 rfl rfl)
theorem dX5_isRing_29 : decode cX5_isRing 29 = .ok (.iinc 3 1, 3) := dk_132 3 1 (dk_at dksX5_isRing_1 6 rfl rfl)
theorem dX5_isRing_32 : decode cX5_isRing 32 = .ok (.goto (-23), 3) := dk_167 255 233 (dk_at dksX5_isRing_1 9 rfl rfl)
theorem dX5_isRing_35 : decode cX5_isRing 35 = .ok (.iload_n 2, 1) := dk_28 (dk_at dksX5_isRing_1 12 rfl rfl)
theorem dX5_isRing_36 : decode cX5_isRing 36 = .ok (.iload_n 1, 1) := dk_27 (dk_at dksX5_isRing_1 13 rfl rfl)
theorem dX5_isRing_37 : decode cX5_isRing 37 = .ok (.if_icmp .ne 7, 3) := dk_160 0 7 (dk_at dksX5_isRing_1 14 rfl rfl)
theorem dX5_isRing_40 : decode cX5_isRing 40 = .ok (.iconst 1, 1) := dk_4 (dk_at dksX5_isRing_1 17 rfl rfl)
theorem dX5_isRing_41 : decode cX5_isRing 41 = .ok (.goto 4, 3) := dk_167 0 4 (dk_at dksX5_isRing_1 18 rfl rfl)
theorem dX5_isRing_44 : decode cX5_isRing 44 = .ok (.iconst 0, 1) := dk_3 (dk_at dksX5_isRing_1 21 rfl rfl)
theorem dX5_isRing_45 : decode cX5_isRing 45 = .ok (.ireturn, 1) := dk_172 (dk_at dksX5_isRing_1 22 rfl rfl)
abbrev cX5_swapped : ByteArray := prog_17_method_89_code
def yX5_swapped : MethodName := ⟨RX5, "swapped", "()I"⟩
theorem dX5_swapped_0 : decode cX5_swapped 0 = .ok (.aload_n 0, 1) := by decide +kernel
theorem dX5_swapped_1 : decode cX5_swapped 1 = .ok (.invokevirtual 290, 3) := by decide +kernel
theorem dX5_swapped_4 : decode cX5_swapped 4 = .ok (.ireturn, 1) := by decide +kernel
abbrev cX5_others : ByteArray := prog_17_method_88_code
def yX5_others : MethodName := ⟨RX5, "others", "()I"⟩
def dkwX5_others_1 : List UInt8 := [180, 0, 28, 28, 46, 159, 0, 6, 132, 1, 1, 132, 2, 1, 167, 255, 227, 27, 172]
abbrev dktX5_others_1 : List UInt8 := dkwX5_others_1 ++ []
def dkwX5_others_0 : List UInt8 := [42, 182, 1, 31, 3, 60, 3, 61, 28, 42, 180, 0, 89, 162, 0, 27, 42, 180, 0, 75, 28, 46, 42]
abbrev dktX5_others_0 : List UInt8 := dkwX5_others_0 ++ dktX5_others_1
theorem dksX5_others_0 : cX5_others.data.toList.drop 0 = dktX5_others_0 := by decide +kernel
theorem dksX5_others_1 : cX5_others.data.toList.drop 23 = dktX5_others_1 := dk_seg dksX5_others_0 23 rfl rfl
theorem dX5_others_0 : decode cX5_others 0 = .ok (.aload_n 0, 1) := dk_42 (dk_at dksX5_others_0 0 rfl rfl)
theorem dX5_others_1 : decode cX5_others 1 = .ok (.invokevirtual 287, 3) := dk_182 1 31 (dk_at dksX5_others_0 1 rfl rfl)
theorem dX5_others_4 : decode cX5_others 4 = .ok (.iconst 0, 1) := dk_3 (dk_at dksX5_others_0 4 rfl rfl)
theorem dX5_others_5 : decode cX5_others 5 = .ok (.istore_n 1, 1) := dk_60 (dk_at dksX5_others_0 5 rfl rfl)
theorem dX5_others_6 : decode cX5_others 6 = .ok (.iconst 0, 1) := dk_3 (dk_at dksX5_others_0 6 rfl rfl)
theorem dX5_others_7 : decode cX5_others 7 = .ok (.istore_n 2, 1) := dk_61 (dk_at dksX5_others_0 7 rfl rfl)
theorem dX5_others_8 : decode cX5_others 8 = .ok (.iload_n 2, 1) := dk_28 (dk_at dksX5_others_0 8 rfl rfl)
theorem dX5_others_9 : decode cX5_others 9 = .ok (.aload_n 0, 1) := dk_42 (dk_at dksX5_others_0 9 rfl rfl)
theorem dX5_others_10 : decode cX5_others 10 = .ok (.getfield 89, 3) := dk_180 0 89 (dk_at dksX5_others_0 10 rfl rfl)
theorem dX5_others_13 : decode cX5_others 13 = .ok (.if_icmp .ge 27, 3) := dk_162 0 27 (dk_at dksX5_others_0 13 rfl rfl)
theorem dX5_others_16 : decode cX5_others 16 = .ok (.aload_n 0, 1) := dk_42 (dk_at dksX5_others_0 16 rfl rfl)
theorem dX5_others_17 : decode cX5_others 17 = .ok (.getfield 75, 3) := dk_180 0 75 (dk_at dksX5_others_0 17 rfl rfl)
theorem dX5_others_20 : decode cX5_others 20 = .ok (.iload_n 2, 1) := dk_28 (dk_at dksX5_others_0 20 rfl rfl)
theorem dX5_others_21 : decode cX5_others 21 = .ok (.iaload, 1) := dk_46 (dk_at dksX5_others_0 21 rfl rfl)
theorem dX5_others_22 : decode cX5_others 22 = .ok (.aload_n 0, 1) := dk_42 (dk_at dksX5_others_0 22 rfl rfl)
theorem dX5_others_23 : decode cX5_others 23 = .ok (.getfield 28, 3) := dk_180 0 28 (dk_at dksX5_others_1 0 rfl rfl)
theorem dX5_others_26 : decode cX5_others 26 = .ok (.iload_n 2, 1) := dk_28 (dk_at dksX5_others_1 3 rfl rfl)
theorem dX5_others_27 : decode cX5_others 27 = .ok (.iaload, 1) := dk_46 (dk_at dksX5_others_1 4 rfl rfl)
theorem dX5_others_28 : decode cX5_others 28 = .ok (.if_icmp .eq 6, 3) := dk_159 0 6 (dk_at dksX5_others_1 5 rfl rfl)
theorem dX5_others_31 : decode cX5_others 31 = .ok (.iinc 1 1, 3) := dk_132 1 1 (dk_at dksX5_others_1 8 rfl rfl)
theorem dX5_others_34 : decode cX5_others 34 = .ok (.iinc 2 1, 3) := dk_132 2 1 (dk_at dksX5_others_1 11 rfl rfl)
theorem dX5_others_37 : decode cX5_others 37 = .ok (.goto (-29), 3) := dk_167 255 227 (dk_at dksX5_others_1 14 rfl rfl)
theorem dX5_others_40 : decode cX5_others 40 = .ok (.iload_n 1, 1) := dk_27 (dk_at dksX5_others_1 17 rfl rfl)
theorem dX5_others_41 : decode cX5_others 41 = .ok (.ireturn, 1) := dk_172 (dk_at dksX5_others_1 18 rfl rfl)
abbrev cX5_judge : ByteArray := prog_17_method_92_code
def yX5_judge : MethodName := ⟨RX5, "judge", "(II)I"⟩
def dkwX5_judge_2 : List UInt8 := [180, 0, 40, 27, 46, 164, 0, 12, 42, 16, 254, 182, 0, 96, 167, 0, 9, 42, 27, 28, 182, 1, 40, 172]
abbrev dktX5_judge_2 : List UInt8 := dkwX5_judge_2 ++ []
def dkwX5_judge_1 : List UInt8 := [42, 27, 182, 0, 100, 154, 0, 13, 42, 42, 27, 182, 0, 103, 182, 0, 96, 172, 5, 28, 104, 42]
abbrev dktX5_judge_1 : List UInt8 := dkwX5_judge_1 ++ dktX5_judge_2
def dkwX5_judge_0 : List UInt8 := [27, 184, 0, 92, 153, 0, 13, 28, 3, 16, 20, 184, 0, 85, 154, 0, 10, 42, 16, 254, 182, 0, 96, 172]
abbrev dktX5_judge_0 : List UInt8 := dkwX5_judge_0 ++ dktX5_judge_1
theorem dksX5_judge_0 : cX5_judge.data.toList.drop 0 = dktX5_judge_0 := by decide +kernel
theorem dksX5_judge_1 : cX5_judge.data.toList.drop 24 = dktX5_judge_1 := dk_seg dksX5_judge_0 24 rfl rfl
theorem dksX5_judge_2 : cX5_judge.data.toList.drop 46 = dktX5_judge_2 := dk_seg dksX5_judge_1 22 rfl rfl
theorem dX5_judge_0 : decode cX5_judge 0 = .ok (.iload_n 1, 1) := dk_27 (dk_at dksX5_judge_0 0 rfl rfl)
theorem dX5_judge_1 : decode cX5_judge 1 = .ok (.invokestatic 92, 3) := dk_184 0 92 (dk_at dksX5_judge_0 1 rfl rfl)
theorem dX5_judge_4 : decode cX5_judge 4 = .ok (.ifCond .eq 13, 3) := dk_153 0 13 (dk_at dksX5_judge_0 4 rfl rfl)
theorem dX5_judge_7 : decode cX5_judge 7 = .ok (.iload_n 2, 1) := dk_28 (dk_at dksX5_judge_0 7 rfl rfl)
theorem dX5_judge_8 : decode cX5_judge 8 = .ok (.iconst 0, 1) := dk_3 (dk_at dksX5_judge_0 8 rfl rfl)
theorem dX5_judge_9 : decode cX5_judge 9 = .ok (.bipush 20, 2) := dk_16 20 (dk_at dksX5_judge_0 9 rfl rfl)
theorem dX5_judge_11 : decode cX5_judge 11 = .ok (.invokestatic 85, 3) := dk_184 0 85 (dk_at dksX5_judge_0 11 rfl rfl)
theorem dX5_judge_14 : decode cX5_judge 14 = .ok (.ifCond .ne 10, 3) := dk_154 0 10 (dk_at dksX5_judge_0 14 rfl rfl)
theorem dX5_judge_17 : decode cX5_judge 17 = .ok (.aload_n 0, 1) := dk_42 (dk_at dksX5_judge_0 17 rfl rfl)
theorem dX5_judge_18 : decode cX5_judge 18 = .ok (.bipush (-2), 2) := dk_16 254 (dk_at dksX5_judge_0 18 rfl rfl)
theorem dX5_judge_20 : decode cX5_judge 20 = .ok (.invokevirtual 96, 3) := dk_182 0 96 (dk_at dksX5_judge_0 20 rfl rfl)
theorem dX5_judge_23 : decode cX5_judge 23 = .ok (.ireturn, 1) := dk_172 (dk_at dksX5_judge_0 23 rfl rfl)
theorem dX5_judge_24 : decode cX5_judge 24 = .ok (.aload_n 0, 1) := dk_42 (dk_at dksX5_judge_1 0 rfl rfl)
theorem dX5_judge_25 : decode cX5_judge 25 = .ok (.iload_n 1, 1) := dk_27 (dk_at dksX5_judge_1 1 rfl rfl)
theorem dX5_judge_26 : decode cX5_judge 26 = .ok (.invokevirtual 100, 3) := dk_182 0 100 (dk_at dksX5_judge_1 2 rfl rfl)
theorem dX5_judge_29 : decode cX5_judge 29 = .ok (.ifCond .ne 13, 3) := dk_154 0 13 (dk_at dksX5_judge_1 5 rfl rfl)
theorem dX5_judge_32 : decode cX5_judge 32 = .ok (.aload_n 0, 1) := dk_42 (dk_at dksX5_judge_1 8 rfl rfl)
theorem dX5_judge_33 : decode cX5_judge 33 = .ok (.aload_n 0, 1) := dk_42 (dk_at dksX5_judge_1 9 rfl rfl)
theorem dX5_judge_34 : decode cX5_judge 34 = .ok (.iload_n 1, 1) := dk_27 (dk_at dksX5_judge_1 10 rfl rfl)
theorem dX5_judge_35 : decode cX5_judge 35 = .ok (.invokevirtual 103, 3) := dk_182 0 103 (dk_at dksX5_judge_1 11 rfl rfl)
theorem dX5_judge_38 : decode cX5_judge 38 = .ok (.invokevirtual 96, 3) := dk_182 0 96 (dk_at dksX5_judge_1 14 rfl rfl)
theorem dX5_judge_41 : decode cX5_judge 41 = .ok (.ireturn, 1) := dk_172 (dk_at dksX5_judge_1 17 rfl rfl)
theorem dX5_judge_42 : decode cX5_judge 42 = .ok (.iconst 2, 1) := dk_5 (dk_at dksX5_judge_1 18 rfl rfl)
theorem dX5_judge_43 : decode cX5_judge 43 = .ok (.iload_n 2, 1) := dk_28 (dk_at dksX5_judge_1 19 rfl rfl)
theorem dX5_judge_44 : decode cX5_judge 44 = .ok (.imul, 1) := dk_104 (dk_at dksX5_judge_1 20 rfl rfl)
theorem dX5_judge_45 : decode cX5_judge 45 = .ok (.aload_n 0, 1) := dk_42 (dk_at dksX5_judge_1 21 rfl rfl)
theorem dX5_judge_46 : decode cX5_judge 46 = .ok (.getfield 40, 3) := dk_180 0 40 (dk_at dksX5_judge_2 0 rfl rfl)
theorem dX5_judge_49 : decode cX5_judge 49 = .ok (.iload_n 1, 1) := dk_27 (dk_at dksX5_judge_2 3 rfl rfl)
theorem dX5_judge_50 : decode cX5_judge 50 = .ok (.iaload, 1) := dk_46 (dk_at dksX5_judge_2 4 rfl rfl)
theorem dX5_judge_51 : decode cX5_judge 51 = .ok (.if_icmp .le 12, 3) := dk_164 0 12 (dk_at dksX5_judge_2 5 rfl rfl)
theorem dX5_judge_54 : decode cX5_judge 54 = .ok (.aload_n 0, 1) := dk_42 (dk_at dksX5_judge_2 8 rfl rfl)
theorem dX5_judge_55 : decode cX5_judge 55 = .ok (.bipush (-2), 2) := dk_16 254 (dk_at dksX5_judge_2 9 rfl rfl)
theorem dX5_judge_57 : decode cX5_judge 57 = .ok (.invokevirtual 96, 3) := dk_182 0 96 (dk_at dksX5_judge_2 11 rfl rfl)
theorem dX5_judge_60 : decode cX5_judge 60 = .ok (.goto 9, 3) := dk_167 0 9 (dk_at dksX5_judge_2 14 rfl rfl)
theorem dX5_judge_63 : decode cX5_judge 63 = .ok (.aload_n 0, 1) := dk_42 (dk_at dksX5_judge_2 17 rfl rfl)
theorem dX5_judge_64 : decode cX5_judge 64 = .ok (.iload_n 1, 1) := dk_27 (dk_at dksX5_judge_2 18 rfl rfl)
theorem dX5_judge_65 : decode cX5_judge 65 = .ok (.iload_n 2, 1) := dk_28 (dk_at dksX5_judge_2 19 rfl rfl)
theorem dX5_judge_66 : decode cX5_judge 66 = .ok (.invokevirtual 296, 3) := dk_182 1 40 (dk_at dksX5_judge_2 20 rfl rfl)
theorem dX5_judge_69 : decode cX5_judge 69 = .ok (.ireturn, 1) := dk_172 (dk_at dksX5_judge_2 23 rfl rfl)
abbrev cX5_wrong : ByteArray := prog_17_method_91_code
def yX5_wrong : MethodName := ⟨RX5, "wrong", "(II)I"⟩
def dkwX5_wrong_6 : List UInt8 := [180, 0, 59, 21, 4, 46, 46, 133, 148, 153, 0, 6, 21, 4, 172, 132, 4, 1, 167, 255, 172, 2, 172]
abbrev dktX5_wrong_6 : List UInt8 := dkwX5_wrong_6 ++ []
def dkwX5_wrong_5 : List UInt8 := [21, 4, 46, 182, 0, 228, 42, 27, 5, 21, 4, 104, 4, 96, 182, 1, 37, 42, 180, 0, 65, 42]
abbrev dktX5_wrong_5 : List UInt8 := dkwX5_wrong_5 ++ dktX5_wrong_6
def dkwX5_wrong_4 : List UInt8 := [182, 1, 37, 42, 180, 0, 59, 21, 4, 46, 133, 148, 153, 0, 6, 21, 4, 172, 42, 42, 180, 0, 59]
abbrev dktX5_wrong_4 : List UInt8 := dkwX5_wrong_4 ++ dktX5_wrong_5
def dkwX5_wrong_3 : List UInt8 := [54, 4, 21, 4, 28, 162, 0, 84, 21, 4, 42, 180, 0, 219, 162, 0, 24, 42, 27, 5, 21, 4, 104]
abbrev dktX5_wrong_3 : List UInt8 := dkwX5_wrong_3 ++ dktX5_wrong_4
def dkwX5_wrong_2 : List UInt8 := [27, 5, 21, 4, 104, 182, 1, 37, 136, 120, 128, 62, 132, 4, 1, 167, 255, 200, 42, 29, 182, 0, 225, 3]
abbrev dktX5_wrong_2 : List UInt8 := dkwX5_wrong_2 ++ dktX5_wrong_3
def dkwX5_wrong_1 : List UInt8 := [155, 0, 36, 42, 27, 5, 21, 4, 104, 182, 1, 37, 42, 180, 0, 89, 133, 148, 156, 0, 18, 29, 4, 42]
abbrev dktX5_wrong_1 : List UInt8 := dkwX5_wrong_1 ++ dktX5_wrong_2
def dkwX5_wrong_0 : List UInt8 := [3, 62, 3, 54, 4, 21, 4, 28, 162, 0, 56, 42, 27, 5, 21, 4, 104, 182, 1, 37, 9, 148]
abbrev dktX5_wrong_0 : List UInt8 := dkwX5_wrong_0 ++ dktX5_wrong_1
theorem dksX5_wrong_0 : cX5_wrong.data.toList.drop 0 = dktX5_wrong_0 := by decide +kernel
theorem dksX5_wrong_1 : cX5_wrong.data.toList.drop 22 = dktX5_wrong_1 := dk_seg dksX5_wrong_0 22 rfl rfl
theorem dksX5_wrong_2 : cX5_wrong.data.toList.drop 46 = dktX5_wrong_2 := dk_seg dksX5_wrong_1 24 rfl rfl
theorem dksX5_wrong_3 : cX5_wrong.data.toList.drop 70 = dktX5_wrong_3 := dk_seg dksX5_wrong_2 24 rfl rfl
theorem dksX5_wrong_4 : cX5_wrong.data.toList.drop 93 = dktX5_wrong_4 := dk_seg dksX5_wrong_3 23 rfl rfl
theorem dksX5_wrong_5 : cX5_wrong.data.toList.drop 116 = dktX5_wrong_5 := dk_seg dksX5_wrong_4 23 rfl rfl
theorem dksX5_wrong_6 : cX5_wrong.data.toList.drop 138 = dktX5_wrong_6 := dk_seg dksX5_wrong_5 22 rfl rfl
theorem dX5_wrong_0 : decode cX5_wrong 0 = .ok (.iconst 0, 1) := dk_3 (dk_at dksX5_wrong_0 0 rfl rfl)
theorem dX5_wrong_1 : decode cX5_wrong 1 = .ok (.istore_n 3, 1) := dk_62 (dk_at dksX5_wrong_0 1 rfl rfl)
theorem dX5_wrong_2 : decode cX5_wrong 2 = .ok (.iconst 0, 1) := dk_3 (dk_at dksX5_wrong_0 2 rfl rfl)
theorem dX5_wrong_3 : decode cX5_wrong 3 = .ok (.istore 4, 2) := dk_54 4 (dk_at dksX5_wrong_0 3 rfl rfl)
theorem dX5_wrong_5 : decode cX5_wrong 5 = .ok (.iload 4, 2) := dk_21 4 (dk_at dksX5_wrong_0 5 rfl rfl)
theorem dX5_wrong_7 : decode cX5_wrong 7 = .ok (.iload_n 2, 1) := dk_28 (dk_at dksX5_wrong_0 7 rfl rfl)
theorem dX5_wrong_8 : decode cX5_wrong 8 = .ok (.if_icmp .ge 56, 3) := dk_162 0 56 (dk_at dksX5_wrong_0 8 rfl rfl)
theorem dX5_wrong_11 : decode cX5_wrong 11 = .ok (.aload_n 0, 1) := dk_42 (dk_at dksX5_wrong_0 11 rfl rfl)
theorem dX5_wrong_12 : decode cX5_wrong 12 = .ok (.iload_n 1, 1) := dk_27 (dk_at dksX5_wrong_0 12 rfl rfl)
theorem dX5_wrong_13 : decode cX5_wrong 13 = .ok (.iconst 2, 1) := dk_5 (dk_at dksX5_wrong_0 13 rfl rfl)
theorem dX5_wrong_14 : decode cX5_wrong 14 = .ok (.iload 4, 2) := dk_21 4 (dk_at dksX5_wrong_0 14 rfl rfl)
theorem dX5_wrong_16 : decode cX5_wrong 16 = .ok (.imul, 1) := dk_104 (dk_at dksX5_wrong_0 16 rfl rfl)
theorem dX5_wrong_17 : decode cX5_wrong 17 = .ok (.invokevirtual 293, 3) := dk_182 1 37 (dk_at dksX5_wrong_0 17 rfl rfl)
theorem dX5_wrong_20 : decode cX5_wrong 20 = .ok (.lconst 0, 1) := dk_9 (dk_at dksX5_wrong_0 20 rfl rfl)
theorem dX5_wrong_21 : decode cX5_wrong 21 = .ok (.lcmp, 1) := dk_148 (dk_at dksX5_wrong_0 21 rfl rfl)
theorem dX5_wrong_22 : decode cX5_wrong 22 = .ok (.ifCond .lt 36, 3) := dk_155 0 36 (dk_at dksX5_wrong_1 0 rfl rfl)
theorem dX5_wrong_25 : decode cX5_wrong 25 = .ok (.aload_n 0, 1) := dk_42 (dk_at dksX5_wrong_1 3 rfl rfl)
theorem dX5_wrong_26 : decode cX5_wrong 26 = .ok (.iload_n 1, 1) := dk_27 (dk_at dksX5_wrong_1 4 rfl rfl)
theorem dX5_wrong_27 : decode cX5_wrong 27 = .ok (.iconst 2, 1) := dk_5 (dk_at dksX5_wrong_1 5 rfl rfl)
theorem dX5_wrong_28 : decode cX5_wrong 28 = .ok (.iload 4, 2) := dk_21 4 (dk_at dksX5_wrong_1 6 rfl rfl)
theorem dX5_wrong_30 : decode cX5_wrong 30 = .ok (.imul, 1) := dk_104 (dk_at dksX5_wrong_1 8 rfl rfl)
theorem dX5_wrong_31 : decode cX5_wrong 31 = .ok (.invokevirtual 293, 3) := dk_182 1 37 (dk_at dksX5_wrong_1 9 rfl rfl)
theorem dX5_wrong_34 : decode cX5_wrong 34 = .ok (.aload_n 0, 1) := dk_42 (dk_at dksX5_wrong_1 12 rfl rfl)
theorem dX5_wrong_35 : decode cX5_wrong 35 = .ok (.getfield 89, 3) := dk_180 0 89 (dk_at dksX5_wrong_1 13 rfl rfl)
theorem dX5_wrong_38 : decode cX5_wrong 38 = .ok (.i2l, 1) := dk_133 (dk_at dksX5_wrong_1 16 rfl rfl)
theorem dX5_wrong_39 : decode cX5_wrong 39 = .ok (.lcmp, 1) := dk_148 (dk_at dksX5_wrong_1 17 rfl rfl)
theorem dX5_wrong_40 : decode cX5_wrong 40 = .ok (.ifCond .ge 18, 3) := dk_156 0 18 (dk_at dksX5_wrong_1 18 rfl rfl)
theorem dX5_wrong_43 : decode cX5_wrong 43 = .ok (.iload_n 3, 1) := dk_29 (dk_at dksX5_wrong_1 21 rfl rfl)
theorem dX5_wrong_44 : decode cX5_wrong 44 = .ok (.iconst 1, 1) := dk_4 (dk_at dksX5_wrong_1 22 rfl rfl)
theorem dX5_wrong_45 : decode cX5_wrong 45 = .ok (.aload_n 0, 1) := dk_42 (dk_at dksX5_wrong_1 23 rfl rfl)
theorem dX5_wrong_46 : decode cX5_wrong 46 = .ok (.iload_n 1, 1) := dk_27 (dk_at dksX5_wrong_2 0 rfl rfl)
theorem dX5_wrong_47 : decode cX5_wrong 47 = .ok (.iconst 2, 1) := dk_5 (dk_at dksX5_wrong_2 1 rfl rfl)
theorem dX5_wrong_48 : decode cX5_wrong 48 = .ok (.iload 4, 2) := dk_21 4 (dk_at dksX5_wrong_2 2 rfl rfl)
theorem dX5_wrong_50 : decode cX5_wrong 50 = .ok (.imul, 1) := dk_104 (dk_at dksX5_wrong_2 4 rfl rfl)
theorem dX5_wrong_51 : decode cX5_wrong 51 = .ok (.invokevirtual 293, 3) := dk_182 1 37 (dk_at dksX5_wrong_2 5 rfl rfl)
theorem dX5_wrong_54 : decode cX5_wrong 54 = .ok (.l2i, 1) := dk_136 (dk_at dksX5_wrong_2 8 rfl rfl)
theorem dX5_wrong_55 : decode cX5_wrong 55 = .ok (.ishl, 1) := dk_120 (dk_at dksX5_wrong_2 9 rfl rfl)
theorem dX5_wrong_56 : decode cX5_wrong 56 = .ok (.ior, 1) := dk_128 (dk_at dksX5_wrong_2 10 rfl rfl)
theorem dX5_wrong_57 : decode cX5_wrong 57 = .ok (.istore_n 3, 1) := dk_62 (dk_at dksX5_wrong_2 11 rfl rfl)
theorem dX5_wrong_58 : decode cX5_wrong 58 = .ok (.iinc 4 1, 3) := dk_132 4 1 (dk_at dksX5_wrong_2 12 rfl rfl)
theorem dX5_wrong_61 : decode cX5_wrong 61 = .ok (.goto (-56), 3) := dk_167 255 200 (dk_at dksX5_wrong_2 15 rfl rfl)
theorem dX5_wrong_64 : decode cX5_wrong 64 = .ok (.aload_n 0, 1) := dk_42 (dk_at dksX5_wrong_2 18 rfl rfl)
theorem dX5_wrong_65 : decode cX5_wrong 65 = .ok (.iload_n 3, 1) := dk_29 (dk_at dksX5_wrong_2 19 rfl rfl)
theorem dX5_wrong_66 : decode cX5_wrong 66 = .ok (.invokevirtual 225, 3) := dk_182 0 225 (dk_at dksX5_wrong_2 20 rfl rfl)
theorem dX5_wrong_69 : decode cX5_wrong 69 = .ok (.iconst 0, 1) := dk_3 (dk_at dksX5_wrong_2 23 rfl rfl)
theorem dX5_wrong_70 : decode cX5_wrong 70 = .ok (.istore 4, 2) := dk_54 4 (dk_at dksX5_wrong_3 0 rfl rfl)
theorem dX5_wrong_72 : decode cX5_wrong 72 = .ok (.iload 4, 2) := dk_21 4 (dk_at dksX5_wrong_3 2 rfl rfl)
theorem dX5_wrong_74 : decode cX5_wrong 74 = .ok (.iload_n 2, 1) := dk_28 (dk_at dksX5_wrong_3 4 rfl rfl)
theorem dX5_wrong_75 : decode cX5_wrong 75 = .ok (.if_icmp .ge 84, 3) := dk_162 0 84 (dk_at dksX5_wrong_3 5 rfl rfl)
theorem dX5_wrong_78 : decode cX5_wrong 78 = .ok (.iload 4, 2) := dk_21 4 (dk_at dksX5_wrong_3 8 rfl rfl)
theorem dX5_wrong_80 : decode cX5_wrong 80 = .ok (.aload_n 0, 1) := dk_42 (dk_at dksX5_wrong_3 10 rfl rfl)
theorem dX5_wrong_81 : decode cX5_wrong 81 = .ok (.getfield 219, 3) := dk_180 0 219 (dk_at dksX5_wrong_3 11 rfl rfl)
theorem dX5_wrong_84 : decode cX5_wrong 84 = .ok (.if_icmp .ge 24, 3) := dk_162 0 24 (dk_at dksX5_wrong_3 14 rfl rfl)
theorem dX5_wrong_87 : decode cX5_wrong 87 = .ok (.aload_n 0, 1) := dk_42 (dk_at dksX5_wrong_3 17 rfl rfl)
theorem dX5_wrong_88 : decode cX5_wrong 88 = .ok (.iload_n 1, 1) := dk_27 (dk_at dksX5_wrong_3 18 rfl rfl)
theorem dX5_wrong_89 : decode cX5_wrong 89 = .ok (.iconst 2, 1) := dk_5 (dk_at dksX5_wrong_3 19 rfl rfl)
theorem dX5_wrong_90 : decode cX5_wrong 90 = .ok (.iload 4, 2) := dk_21 4 (dk_at dksX5_wrong_3 20 rfl rfl)
theorem dX5_wrong_92 : decode cX5_wrong 92 = .ok (.imul, 1) := dk_104 (dk_at dksX5_wrong_3 22 rfl rfl)
theorem dX5_wrong_93 : decode cX5_wrong 93 = .ok (.invokevirtual 293, 3) := dk_182 1 37 (dk_at dksX5_wrong_4 0 rfl rfl)
theorem dX5_wrong_96 : decode cX5_wrong 96 = .ok (.aload_n 0, 1) := dk_42 (dk_at dksX5_wrong_4 3 rfl rfl)
theorem dX5_wrong_97 : decode cX5_wrong 97 = .ok (.getfield 59, 3) := dk_180 0 59 (dk_at dksX5_wrong_4 4 rfl rfl)
theorem dX5_wrong_100 : decode cX5_wrong 100 = .ok (.iload 4, 2) := dk_21 4 (dk_at dksX5_wrong_4 7 rfl rfl)
theorem dX5_wrong_102 : decode cX5_wrong 102 = .ok (.iaload, 1) := dk_46 (dk_at dksX5_wrong_4 9 rfl rfl)
theorem dX5_wrong_103 : decode cX5_wrong 103 = .ok (.i2l, 1) := dk_133 (dk_at dksX5_wrong_4 10 rfl rfl)
theorem dX5_wrong_104 : decode cX5_wrong 104 = .ok (.lcmp, 1) := dk_148 (dk_at dksX5_wrong_4 11 rfl rfl)
theorem dX5_wrong_105 : decode cX5_wrong 105 = .ok (.ifCond .eq 6, 3) := dk_153 0 6 (dk_at dksX5_wrong_4 12 rfl rfl)
theorem dX5_wrong_108 : decode cX5_wrong 108 = .ok (.iload 4, 2) := dk_21 4 (dk_at dksX5_wrong_4 15 rfl rfl)
theorem dX5_wrong_110 : decode cX5_wrong 110 = .ok (.ireturn, 1) := dk_172 (dk_at dksX5_wrong_4 17 rfl rfl)
theorem dX5_wrong_111 : decode cX5_wrong 111 = .ok (.aload_n 0, 1) := dk_42 (dk_at dksX5_wrong_4 18 rfl rfl)
theorem dX5_wrong_112 : decode cX5_wrong 112 = .ok (.aload_n 0, 1) := dk_42 (dk_at dksX5_wrong_4 19 rfl rfl)
theorem dX5_wrong_113 : decode cX5_wrong 113 = .ok (.getfield 59, 3) := dk_180 0 59 (dk_at dksX5_wrong_4 20 rfl rfl)
theorem dX5_wrong_116 : decode cX5_wrong 116 = .ok (.iload 4, 2) := dk_21 4 (dk_at dksX5_wrong_5 0 rfl rfl)
theorem dX5_wrong_118 : decode cX5_wrong 118 = .ok (.iaload, 1) := dk_46 (dk_at dksX5_wrong_5 2 rfl rfl)
theorem dX5_wrong_119 : decode cX5_wrong 119 = .ok (.invokevirtual 228, 3) := dk_182 0 228 (dk_at dksX5_wrong_5 3 rfl rfl)
theorem dX5_wrong_122 : decode cX5_wrong 122 = .ok (.aload_n 0, 1) := dk_42 (dk_at dksX5_wrong_5 6 rfl rfl)
theorem dX5_wrong_123 : decode cX5_wrong 123 = .ok (.iload_n 1, 1) := dk_27 (dk_at dksX5_wrong_5 7 rfl rfl)
theorem dX5_wrong_124 : decode cX5_wrong 124 = .ok (.iconst 2, 1) := dk_5 (dk_at dksX5_wrong_5 8 rfl rfl)
theorem dX5_wrong_125 : decode cX5_wrong 125 = .ok (.iload 4, 2) := dk_21 4 (dk_at dksX5_wrong_5 9 rfl rfl)
theorem dX5_wrong_127 : decode cX5_wrong 127 = .ok (.imul, 1) := dk_104 (dk_at dksX5_wrong_5 11 rfl rfl)
theorem dX5_wrong_128 : decode cX5_wrong 128 = .ok (.iconst 1, 1) := dk_4 (dk_at dksX5_wrong_5 12 rfl rfl)
theorem dX5_wrong_129 : decode cX5_wrong 129 = .ok (.iadd, 1) := dk_96 (dk_at dksX5_wrong_5 13 rfl rfl)
theorem dX5_wrong_130 : decode cX5_wrong 130 = .ok (.invokevirtual 293, 3) := dk_182 1 37 (dk_at dksX5_wrong_5 14 rfl rfl)
theorem dX5_wrong_133 : decode cX5_wrong 133 = .ok (.aload_n 0, 1) := dk_42 (dk_at dksX5_wrong_5 17 rfl rfl)
theorem dX5_wrong_134 : decode cX5_wrong 134 = .ok (.getfield 65, 3) := dk_180 0 65 (dk_at dksX5_wrong_5 18 rfl rfl)
theorem dX5_wrong_137 : decode cX5_wrong 137 = .ok (.aload_n 0, 1) := dk_42 (dk_at dksX5_wrong_5 21 rfl rfl)
theorem dX5_wrong_138 : decode cX5_wrong 138 = .ok (.getfield 59, 3) := dk_180 0 59 (dk_at dksX5_wrong_6 0 rfl rfl)
theorem dX5_wrong_141 : decode cX5_wrong 141 = .ok (.iload 4, 2) := dk_21 4 (dk_at dksX5_wrong_6 3 rfl rfl)
theorem dX5_wrong_143 : decode cX5_wrong 143 = .ok (.iaload, 1) := dk_46 (dk_at dksX5_wrong_6 5 rfl rfl)
theorem dX5_wrong_144 : decode cX5_wrong 144 = .ok (.iaload, 1) := dk_46 (dk_at dksX5_wrong_6 6 rfl rfl)
theorem dX5_wrong_145 : decode cX5_wrong 145 = .ok (.i2l, 1) := dk_133 (dk_at dksX5_wrong_6 7 rfl rfl)
theorem dX5_wrong_146 : decode cX5_wrong 146 = .ok (.lcmp, 1) := dk_148 (dk_at dksX5_wrong_6 8 rfl rfl)
theorem dX5_wrong_147 : decode cX5_wrong 147 = .ok (.ifCond .eq 6, 3) := dk_153 0 6 (dk_at dksX5_wrong_6 9 rfl rfl)
theorem dX5_wrong_150 : decode cX5_wrong 150 = .ok (.iload 4, 2) := dk_21 4 (dk_at dksX5_wrong_6 12 rfl rfl)
theorem dX5_wrong_152 : decode cX5_wrong 152 = .ok (.ireturn, 1) := dk_172 (dk_at dksX5_wrong_6 14 rfl rfl)
theorem dX5_wrong_153 : decode cX5_wrong 153 = .ok (.iinc 4 1, 3) := dk_132 4 1 (dk_at dksX5_wrong_6 15 rfl rfl)
theorem dX5_wrong_156 : decode cX5_wrong 156 = .ok (.goto (-84), 3) := dk_167 255 172 (dk_at dksX5_wrong_6 18 rfl rfl)
theorem dX5_wrong_159 : decode cX5_wrong 159 = .ok (.iconst (-1), 1) := dk_2 (dk_at dksX5_wrong_6 21 rfl rfl)
theorem dX5_wrong_160 : decode cX5_wrong 160 = .ok (.ireturn, 1) := dk_172 (dk_at dksX5_wrong_6 22 rfl rfl)
abbrev cX5_toldAt : ByteArray := prog_17_method_90_code
def yX5_toldAt : MethodName := ⟨RX5, "toldAt", "(II)J"⟩
def dkwX5_toldAt_0 : List UInt8 := [42, 180, 0, 43, 16, 40, 27, 104, 28, 96, 47, 173]
abbrev dktX5_toldAt_0 : List UInt8 := dkwX5_toldAt_0 ++ []
theorem dksX5_toldAt_0 : cX5_toldAt.data.toList.drop 0 = dktX5_toldAt_0 := by decide +kernel
theorem dX5_toldAt_0 : decode cX5_toldAt 0 = .ok (.aload_n 0, 1) := dk_42 (dk_at dksX5_toldAt_0 0 rfl rfl)
theorem dX5_toldAt_1 : decode cX5_toldAt 1 = .ok (.getfield 43, 3) := dk_180 0 43 (dk_at dksX5_toldAt_0 1 rfl rfl)
theorem dX5_toldAt_4 : decode cX5_toldAt 4 = .ok (.bipush 40, 2) := dk_16 40 (dk_at dksX5_toldAt_0 4 rfl rfl)
theorem dX5_toldAt_6 : decode cX5_toldAt 6 = .ok (.iload_n 1, 1) := dk_27 (dk_at dksX5_toldAt_0 6 rfl rfl)
theorem dX5_toldAt_7 : decode cX5_toldAt 7 = .ok (.imul, 1) := dk_104 (dk_at dksX5_toldAt_0 7 rfl rfl)
theorem dX5_toldAt_8 : decode cX5_toldAt 8 = .ok (.iload_n 2, 1) := dk_28 (dk_at dksX5_toldAt_0 8 rfl rfl)
theorem dX5_toldAt_9 : decode cX5_toldAt 9 = .ok (.iadd, 1) := dk_96 (dk_at dksX5_toldAt_0 9 rfl rfl)
theorem dX5_toldAt_10 : decode cX5_toldAt 10 = .ok (.laload, 1) := dk_47 (dk_at dksX5_toldAt_0 10 rfl rfl)
theorem dX5_toldAt_11 : decode cX5_toldAt 11 = .ok (.lreturn, 1) := dk_173 (dk_at dksX5_toldAt_0 11 rfl rfl)
abbrev cX5_evening : ByteArray := prog_17_method_94_code
def yX5_evening : MethodName := ⟨RX5, "evening", "(I)I"⟩
def dkwX5_evening_0 : List UInt8 := [42, 27, 182, 0, 234, 153, 0, 11, 42, 27, 182, 1, 51, 167, 0, 9, 42, 16, 254, 182, 0, 96, 172]
abbrev dktX5_evening_0 : List UInt8 := dkwX5_evening_0 ++ []
theorem dksX5_evening_0 : cX5_evening.data.toList.drop 0 = dktX5_evening_0 := by decide +kernel
theorem dX5_evening_0 : decode cX5_evening 0 = .ok (.aload_n 0, 1) := dk_42 (dk_at dksX5_evening_0 0 rfl rfl)
theorem dX5_evening_1 : decode cX5_evening 1 = .ok (.iload_n 1, 1) := dk_27 (dk_at dksX5_evening_0 1 rfl rfl)
theorem dX5_evening_2 : decode cX5_evening 2 = .ok (.invokevirtual 234, 3) := dk_182 0 234 (dk_at dksX5_evening_0 2 rfl rfl)
theorem dX5_evening_5 : decode cX5_evening 5 = .ok (.ifCond .eq 11, 3) := dk_153 0 11 (dk_at dksX5_evening_0 5 rfl rfl)
theorem dX5_evening_8 : decode cX5_evening 8 = .ok (.aload_n 0, 1) := dk_42 (dk_at dksX5_evening_0 8 rfl rfl)
theorem dX5_evening_9 : decode cX5_evening 9 = .ok (.iload_n 1, 1) := dk_27 (dk_at dksX5_evening_0 9 rfl rfl)
theorem dX5_evening_10 : decode cX5_evening 10 = .ok (.invokevirtual 307, 3) := dk_182 1 51 (dk_at dksX5_evening_0 10 rfl rfl)
theorem dX5_evening_13 : decode cX5_evening 13 = .ok (.goto 9, 3) := dk_167 0 9 (dk_at dksX5_evening_0 13 rfl rfl)
theorem dX5_evening_16 : decode cX5_evening 16 = .ok (.aload_n 0, 1) := dk_42 (dk_at dksX5_evening_0 16 rfl rfl)
theorem dX5_evening_17 : decode cX5_evening 17 = .ok (.bipush (-2), 2) := dk_16 254 (dk_at dksX5_evening_0 17 rfl rfl)
theorem dX5_evening_19 : decode cX5_evening 19 = .ok (.invokevirtual 96, 3) := dk_182 0 96 (dk_at dksX5_evening_0 19 rfl rfl)
theorem dX5_evening_22 : decode cX5_evening 22 = .ok (.ireturn, 1) := dk_172 (dk_at dksX5_evening_0 22 rfl rfl)
abbrev cX5_goes : ByteArray := prog_17_method_93_code
def yX5_goes : MethodName := ⟨RX5, "goes", "(I)I"⟩
def dkwX5_goes_6 : List UInt8 := [29, 46, 79, 132, 3, 1, 167, 255, 235, 42, 89, 180, 1, 48, 4, 96, 181, 1, 48, 28, 172]
abbrev dktX5_goes_6 : List UInt8 := dkwX5_goes_6 ++ []
def dkwX5_goes_5 : List UInt8 := [79, 132, 3, 1, 167, 255, 142, 3, 62, 29, 16, 12, 162, 0, 21, 42, 180, 0, 9, 29, 42, 180, 0, 56]
abbrev dktX5_goes_5 : List UInt8 := dkwX5_goes_5 ++ dktX5_goes_6
def dkwX5_goes_4 : List UInt8 := [180, 0, 62, 29, 46, 153, 0, 20, 42, 180, 0, 28, 29, 42, 180, 0, 9, 42, 180, 0, 65, 29, 46, 46]
abbrev dktX5_goes_4 : List UInt8 := dkwX5_goes_4 ++ dktX5_goes_5
def dkwX5_goes_3 : List UInt8 := [104, 42, 180, 0, 9, 21, 4, 46, 96, 46, 4, 96, 184, 1, 43, 79, 132, 4, 1, 167, 255, 185, 42]
abbrev dktX5_goes_3 : List UInt8 := dkwX5_goes_3 ++ dktX5_goes_4
def dkwX5_goes_2 : List UInt8 := [180, 0, 31, 16, 8, 29, 104, 42, 180, 0, 9, 21, 4, 46, 96, 16, 99, 42, 180, 0, 31, 16, 8, 29]
abbrev dktX5_goes_2 : List UInt8 := dkwX5_goes_2 ++ dktX5_goes_3
def dkwX5_goes_1 : List UInt8 := [162, 0, 70, 42, 180, 0, 62, 29, 46, 21, 4, 184, 0, 194, 154, 0, 6, 167, 0, 47, 132, 2, 1, 42]
abbrev dktX5_goes_1 : List UInt8 := dkwX5_goes_1 ++ dktX5_goes_2
def dkwX5_goes_0 : List UInt8 := [42, 27, 182, 0, 117, 3, 61, 3, 62, 29, 42, 180, 0, 89, 162, 0, 112, 3, 54, 4, 21, 4, 16, 12]
abbrev dktX5_goes_0 : List UInt8 := dkwX5_goes_0 ++ dktX5_goes_1
theorem dksX5_goes_0 : cX5_goes.data.toList.drop 0 = dktX5_goes_0 := by decide +kernel
theorem dksX5_goes_1 : cX5_goes.data.toList.drop 24 = dktX5_goes_1 := dk_seg dksX5_goes_0 24 rfl rfl
theorem dksX5_goes_2 : cX5_goes.data.toList.drop 48 = dktX5_goes_2 := dk_seg dksX5_goes_1 24 rfl rfl
theorem dksX5_goes_3 : cX5_goes.data.toList.drop 72 = dktX5_goes_3 := dk_seg dksX5_goes_2 24 rfl rfl
theorem dksX5_goes_4 : cX5_goes.data.toList.drop 95 = dktX5_goes_4 := dk_seg dksX5_goes_3 23 rfl rfl
theorem dksX5_goes_5 : cX5_goes.data.toList.drop 119 = dktX5_goes_5 := dk_seg dksX5_goes_4 24 rfl rfl
theorem dksX5_goes_6 : cX5_goes.data.toList.drop 143 = dktX5_goes_6 := dk_seg dksX5_goes_5 24 rfl rfl
theorem dX5_goes_0 : decode cX5_goes 0 = .ok (.aload_n 0, 1) := dk_42 (dk_at dksX5_goes_0 0 rfl rfl)
theorem dX5_goes_1 : decode cX5_goes 1 = .ok (.iload_n 1, 1) := dk_27 (dk_at dksX5_goes_0 1 rfl rfl)
theorem dX5_goes_2 : decode cX5_goes 2 = .ok (.invokevirtual 117, 3) := dk_182 0 117 (dk_at dksX5_goes_0 2 rfl rfl)
theorem dX5_goes_5 : decode cX5_goes 5 = .ok (.iconst 0, 1) := dk_3 (dk_at dksX5_goes_0 5 rfl rfl)
theorem dX5_goes_6 : decode cX5_goes 6 = .ok (.istore_n 2, 1) := dk_61 (dk_at dksX5_goes_0 6 rfl rfl)
theorem dX5_goes_7 : decode cX5_goes 7 = .ok (.iconst 0, 1) := dk_3 (dk_at dksX5_goes_0 7 rfl rfl)
theorem dX5_goes_8 : decode cX5_goes 8 = .ok (.istore_n 3, 1) := dk_62 (dk_at dksX5_goes_0 8 rfl rfl)
theorem dX5_goes_9 : decode cX5_goes 9 = .ok (.iload_n 3, 1) := dk_29 (dk_at dksX5_goes_0 9 rfl rfl)
theorem dX5_goes_10 : decode cX5_goes 10 = .ok (.aload_n 0, 1) := dk_42 (dk_at dksX5_goes_0 10 rfl rfl)
theorem dX5_goes_11 : decode cX5_goes 11 = .ok (.getfield 89, 3) := dk_180 0 89 (dk_at dksX5_goes_0 11 rfl rfl)
theorem dX5_goes_14 : decode cX5_goes 14 = .ok (.if_icmp .ge 112, 3) := dk_162 0 112 (dk_at dksX5_goes_0 14 rfl rfl)
theorem dX5_goes_17 : decode cX5_goes 17 = .ok (.iconst 0, 1) := dk_3 (dk_at dksX5_goes_0 17 rfl rfl)
theorem dX5_goes_18 : decode cX5_goes 18 = .ok (.istore 4, 2) := dk_54 4 (dk_at dksX5_goes_0 18 rfl rfl)
theorem dX5_goes_20 : decode cX5_goes 20 = .ok (.iload 4, 2) := dk_21 4 (dk_at dksX5_goes_0 20 rfl rfl)
theorem dX5_goes_22 : decode cX5_goes 22 = .ok (.bipush 12, 2) := dk_16 12 (dk_at dksX5_goes_0 22 rfl rfl)
theorem dX5_goes_24 : decode cX5_goes 24 = .ok (.if_icmp .ge 70, 3) := dk_162 0 70 (dk_at dksX5_goes_1 0 rfl rfl)
theorem dX5_goes_27 : decode cX5_goes 27 = .ok (.aload_n 0, 1) := dk_42 (dk_at dksX5_goes_1 3 rfl rfl)
theorem dX5_goes_28 : decode cX5_goes 28 = .ok (.getfield 62, 3) := dk_180 0 62 (dk_at dksX5_goes_1 4 rfl rfl)
theorem dX5_goes_31 : decode cX5_goes 31 = .ok (.iload_n 3, 1) := dk_29 (dk_at dksX5_goes_1 7 rfl rfl)
theorem dX5_goes_32 : decode cX5_goes 32 = .ok (.iaload, 1) := dk_46 (dk_at dksX5_goes_1 8 rfl rfl)
theorem dX5_goes_33 : decode cX5_goes 33 = .ok (.iload 4, 2) := dk_21 4 (dk_at dksX5_goes_1 9 rfl rfl)
theorem dX5_goes_35 : decode cX5_goes 35 = .ok (.invokestatic 194, 3) := dk_184 0 194 (dk_at dksX5_goes_1 11 rfl rfl)
theorem dX5_goes_38 : decode cX5_goes 38 = .ok (.ifCond .ne 6, 3) := dk_154 0 6 (dk_at dksX5_goes_1 14 rfl rfl)
theorem dX5_goes_41 : decode cX5_goes 41 = .ok (.goto 47, 3) := dk_167 0 47 (dk_at dksX5_goes_1 17 rfl rfl)
theorem dX5_goes_44 : decode cX5_goes 44 = .ok (.iinc 2 1, 3) := dk_132 2 1 (dk_at dksX5_goes_1 20 rfl rfl)
theorem dX5_goes_47 : decode cX5_goes 47 = .ok (.aload_n 0, 1) := dk_42 (dk_at dksX5_goes_1 23 rfl rfl)
theorem dX5_goes_48 : decode cX5_goes 48 = .ok (.getfield 31, 3) := dk_180 0 31 (dk_at dksX5_goes_2 0 rfl rfl)
theorem dX5_goes_51 : decode cX5_goes 51 = .ok (.bipush 8, 2) := dk_16 8 (dk_at dksX5_goes_2 3 rfl rfl)
theorem dX5_goes_53 : decode cX5_goes 53 = .ok (.iload_n 3, 1) := dk_29 (dk_at dksX5_goes_2 5 rfl rfl)
theorem dX5_goes_54 : decode cX5_goes 54 = .ok (.imul, 1) := dk_104 (dk_at dksX5_goes_2 6 rfl rfl)
theorem dX5_goes_55 : decode cX5_goes 55 = .ok (.aload_n 0, 1) := dk_42 (dk_at dksX5_goes_2 7 rfl rfl)
theorem dX5_goes_56 : decode cX5_goes 56 = .ok (.getfield 9, 3) := dk_180 0 9 (dk_at dksX5_goes_2 8 rfl rfl)
theorem dX5_goes_59 : decode cX5_goes 59 = .ok (.iload 4, 2) := dk_21 4 (dk_at dksX5_goes_2 11 rfl rfl)
theorem dX5_goes_61 : decode cX5_goes 61 = .ok (.iaload, 1) := dk_46 (dk_at dksX5_goes_2 13 rfl rfl)
theorem dX5_goes_62 : decode cX5_goes 62 = .ok (.iadd, 1) := dk_96 (dk_at dksX5_goes_2 14 rfl rfl)
theorem dX5_goes_63 : decode cX5_goes 63 = .ok (.bipush 99, 2) := dk_16 99 (dk_at dksX5_goes_2 15 rfl rfl)
theorem dX5_goes_65 : decode cX5_goes 65 = .ok (.aload_n 0, 1) := dk_42 (dk_at dksX5_goes_2 17 rfl rfl)
theorem dX5_goes_66 : decode cX5_goes 66 = .ok (.getfield 31, 3) := dk_180 0 31 (dk_at dksX5_goes_2 18 rfl rfl)
theorem dX5_goes_69 : decode cX5_goes 69 = .ok (.bipush 8, 2) := dk_16 8 (dk_at dksX5_goes_2 21 rfl rfl)
theorem dX5_goes_71 : decode cX5_goes 71 = .ok (.iload_n 3, 1) := dk_29 (dk_at dksX5_goes_2 23 rfl rfl)
theorem dX5_goes_72 : decode cX5_goes 72 = .ok (.imul, 1) := dk_104 (dk_at dksX5_goes_3 0 rfl rfl)
theorem dX5_goes_73 : decode cX5_goes 73 = .ok (.aload_n 0, 1) := dk_42 (dk_at dksX5_goes_3 1 rfl rfl)
theorem dX5_goes_74 : decode cX5_goes 74 = .ok (.getfield 9, 3) := dk_180 0 9 (dk_at dksX5_goes_3 2 rfl rfl)
theorem dX5_goes_77 : decode cX5_goes 77 = .ok (.iload 4, 2) := dk_21 4 (dk_at dksX5_goes_3 5 rfl rfl)
theorem dX5_goes_79 : decode cX5_goes 79 = .ok (.iaload, 1) := dk_46 (dk_at dksX5_goes_3 7 rfl rfl)
theorem dX5_goes_80 : decode cX5_goes 80 = .ok (.iadd, 1) := dk_96 (dk_at dksX5_goes_3 8 rfl rfl)
theorem dX5_goes_81 : decode cX5_goes 81 = .ok (.iaload, 1) := dk_46 (dk_at dksX5_goes_3 9 rfl rfl)
theorem dX5_goes_82 : decode cX5_goes 82 = .ok (.iconst 1, 1) := dk_4 (dk_at dksX5_goes_3 10 rfl rfl)
theorem dX5_goes_83 : decode cX5_goes 83 = .ok (.iadd, 1) := dk_96 (dk_at dksX5_goes_3 11 rfl rfl)
theorem dX5_goes_84 : decode cX5_goes 84 = .ok (.invokestatic 299, 3) := dk_184 1 43 (dk_at dksX5_goes_3 12 rfl rfl)
theorem dX5_goes_87 : decode cX5_goes 87 = .ok (.iastore, 1) := dk_79 (dk_at dksX5_goes_3 15 rfl rfl)
theorem dX5_goes_88 : decode cX5_goes 88 = .ok (.iinc 4 1, 3) := dk_132 4 1 (dk_at dksX5_goes_3 16 rfl rfl)
theorem dX5_goes_91 : decode cX5_goes 91 = .ok (.goto (-71), 3) := dk_167 255 185 (dk_at dksX5_goes_3 19 rfl rfl)
theorem dX5_goes_94 : decode cX5_goes 94 = .ok (.aload_n 0, 1) := dk_42 (dk_at dksX5_goes_3 22 rfl rfl)
theorem dX5_goes_95 : decode cX5_goes 95 = .ok (.getfield 62, 3) := dk_180 0 62 (dk_at dksX5_goes_4 0 rfl rfl)
theorem dX5_goes_98 : decode cX5_goes 98 = .ok (.iload_n 3, 1) := dk_29 (dk_at dksX5_goes_4 3 rfl rfl)
theorem dX5_goes_99 : decode cX5_goes 99 = .ok (.iaload, 1) := dk_46 (dk_at dksX5_goes_4 4 rfl rfl)
theorem dX5_goes_100 : decode cX5_goes 100 = .ok (.ifCond .eq 20, 3) := dk_153 0 20 (dk_at dksX5_goes_4 5 rfl rfl)
theorem dX5_goes_103 : decode cX5_goes 103 = .ok (.aload_n 0, 1) := dk_42 (dk_at dksX5_goes_4 8 rfl rfl)
theorem dX5_goes_104 : decode cX5_goes 104 = .ok (.getfield 28, 3) := dk_180 0 28 (dk_at dksX5_goes_4 9 rfl rfl)
theorem dX5_goes_107 : decode cX5_goes 107 = .ok (.iload_n 3, 1) := dk_29 (dk_at dksX5_goes_4 12 rfl rfl)
theorem dX5_goes_108 : decode cX5_goes 108 = .ok (.aload_n 0, 1) := dk_42 (dk_at dksX5_goes_4 13 rfl rfl)
theorem dX5_goes_109 : decode cX5_goes 109 = .ok (.getfield 9, 3) := dk_180 0 9 (dk_at dksX5_goes_4 14 rfl rfl)
theorem dX5_goes_112 : decode cX5_goes 112 = .ok (.aload_n 0, 1) := dk_42 (dk_at dksX5_goes_4 17 rfl rfl)
theorem dX5_goes_113 : decode cX5_goes 113 = .ok (.getfield 65, 3) := dk_180 0 65 (dk_at dksX5_goes_4 18 rfl rfl)
theorem dX5_goes_116 : decode cX5_goes 116 = .ok (.iload_n 3, 1) := dk_29 (dk_at dksX5_goes_4 21 rfl rfl)
theorem dX5_goes_117 : decode cX5_goes 117 = .ok (.iaload, 1) := dk_46 (dk_at dksX5_goes_4 22 rfl rfl)
theorem dX5_goes_118 : decode cX5_goes 118 = .ok (.iaload, 1) := dk_46 (dk_at dksX5_goes_4 23 rfl rfl)
theorem dX5_goes_119 : decode cX5_goes 119 = .ok (.iastore, 1) := dk_79 (dk_at dksX5_goes_5 0 rfl rfl)
theorem dX5_goes_120 : decode cX5_goes 120 = .ok (.iinc 3 1, 3) := dk_132 3 1 (dk_at dksX5_goes_5 1 rfl rfl)
theorem dX5_goes_123 : decode cX5_goes 123 = .ok (.goto (-114), 3) := dk_167 255 142 (dk_at dksX5_goes_5 4 rfl rfl)
theorem dX5_goes_126 : decode cX5_goes 126 = .ok (.iconst 0, 1) := dk_3 (dk_at dksX5_goes_5 7 rfl rfl)
theorem dX5_goes_127 : decode cX5_goes 127 = .ok (.istore_n 3, 1) := dk_62 (dk_at dksX5_goes_5 8 rfl rfl)
theorem dX5_goes_128 : decode cX5_goes 128 = .ok (.iload_n 3, 1) := dk_29 (dk_at dksX5_goes_5 9 rfl rfl)
theorem dX5_goes_129 : decode cX5_goes 129 = .ok (.bipush 12, 2) := dk_16 12 (dk_at dksX5_goes_5 10 rfl rfl)
theorem dX5_goes_131 : decode cX5_goes 131 = .ok (.if_icmp .ge 21, 3) := dk_162 0 21 (dk_at dksX5_goes_5 12 rfl rfl)
theorem dX5_goes_134 : decode cX5_goes 134 = .ok (.aload_n 0, 1) := dk_42 (dk_at dksX5_goes_5 15 rfl rfl)
theorem dX5_goes_135 : decode cX5_goes 135 = .ok (.getfield 9, 3) := dk_180 0 9 (dk_at dksX5_goes_5 16 rfl rfl)
theorem dX5_goes_138 : decode cX5_goes 138 = .ok (.iload_n 3, 1) := dk_29 (dk_at dksX5_goes_5 19 rfl rfl)
theorem dX5_goes_139 : decode cX5_goes 139 = .ok (.aload_n 0, 1) := dk_42 (dk_at dksX5_goes_5 20 rfl rfl)
theorem dX5_goes_140 : decode cX5_goes 140 = .ok (.getfield 56, 3) := dk_180 0 56 (dk_at dksX5_goes_5 21 rfl rfl)
theorem dX5_goes_143 : decode cX5_goes 143 = .ok (.iload_n 3, 1) := dk_29 (dk_at dksX5_goes_6 0 rfl rfl)
theorem dX5_goes_144 : decode cX5_goes 144 = .ok (.iaload, 1) := dk_46 (dk_at dksX5_goes_6 1 rfl rfl)
theorem dX5_goes_145 : decode cX5_goes 145 = .ok (.iastore, 1) := dk_79 (dk_at dksX5_goes_6 2 rfl rfl)
theorem dX5_goes_146 : decode cX5_goes 146 = .ok (.iinc 3 1, 3) := dk_132 3 1 (dk_at dksX5_goes_6 3 rfl rfl)
theorem dX5_goes_149 : decode cX5_goes 149 = .ok (.goto (-21), 3) := dk_167 255 235 (dk_at dksX5_goes_6 6 rfl rfl)
theorem dX5_goes_152 : decode cX5_goes 152 = .ok (.aload_n 0, 1) := dk_42 (dk_at dksX5_goes_6 9 rfl rfl)
theorem dX5_goes_153 : decode cX5_goes 153 = .ok (.dup, 1) := dk_89 (dk_at dksX5_goes_6 10 rfl rfl)
theorem dX5_goes_154 : decode cX5_goes 154 = .ok (.getfield 304, 3) := dk_180 1 48 (dk_at dksX5_goes_6 11 rfl rfl)
theorem dX5_goes_157 : decode cX5_goes 157 = .ok (.iconst 1, 1) := dk_4 (dk_at dksX5_goes_6 14 rfl rfl)
theorem dX5_goes_158 : decode cX5_goes 158 = .ok (.iadd, 1) := dk_96 (dk_at dksX5_goes_6 15 rfl rfl)
theorem dX5_goes_159 : decode cX5_goes 159 = .ok (.putfield 304, 3) := dk_181 1 48 (dk_at dksX5_goes_6 16 rfl rfl)
theorem dX5_goes_162 : decode cX5_goes 162 = .ok (.iload_n 2, 1) := dk_28 (dk_at dksX5_goes_6 19 rfl rfl)
theorem dX5_goes_163 : decode cX5_goes 163 = .ok (.ireturn, 1) := dk_172 (dk_at dksX5_goes_6 20 rfl rfl)
abbrev cX5_swap : ByteArray := prog_17_method_95_code
def yX5_swap : MethodName := ⟨RX5, "swap", "()I"⟩
def dkwX5_swap_5 : List UInt8 := [184, 1, 43, 79, 132, 2, 1, 167, 255, 143, 27, 172]
abbrev dktX5_swap_5 : List UInt8 := dkwX5_swap_5 ++ []
def dkwX5_swap_4 : List UInt8 := [46, 96, 16, 99, 42, 180, 0, 31, 16, 8, 28, 104, 42, 180, 0, 28, 28, 46, 96, 46, 4, 96]
abbrev dktX5_swap_4 : List UInt8 := dkwX5_swap_4 ++ dktX5_swap_5
def dkwX5_swap_3 : List UInt8 := [180, 0, 28, 28, 42, 180, 0, 75, 28, 46, 79, 42, 180, 0, 31, 16, 8, 28, 104, 42, 180, 0, 28, 28]
abbrev dktX5_swap_3 : List UInt8 := dkwX5_swap_3 ++ dktX5_swap_4
def dkwX5_swap_2 : List UInt8 := [180, 0, 31, 16, 8, 28, 104, 42, 180, 0, 28, 28, 46, 96, 46, 4, 100, 184, 1, 54, 79, 42]
abbrev dktX5_swap_2 : List UInt8 := dkwX5_swap_2 ++ dktX5_swap_3
def dkwX5_swap_1 : List UInt8 := [160, 0, 6, 167, 0, 92, 42, 180, 0, 31, 16, 8, 28, 104, 42, 180, 0, 28, 28, 46, 96, 3, 42]
abbrev dktX5_swap_1 : List UInt8 := dkwX5_swap_1 ++ dktX5_swap_2
def dkwX5_swap_0 : List UInt8 := [42, 182, 1, 34, 60, 3, 61, 28, 42, 180, 0, 89, 162, 0, 111, 42, 180, 0, 28, 28, 46, 2]
abbrev dktX5_swap_0 : List UInt8 := dkwX5_swap_0 ++ dktX5_swap_1
theorem dksX5_swap_0 : cX5_swap.data.toList.drop 0 = dktX5_swap_0 := by decide +kernel
theorem dksX5_swap_1 : cX5_swap.data.toList.drop 22 = dktX5_swap_1 := dk_seg dksX5_swap_0 22 rfl rfl
theorem dksX5_swap_2 : cX5_swap.data.toList.drop 45 = dktX5_swap_2 := dk_seg dksX5_swap_1 23 rfl rfl
theorem dksX5_swap_3 : cX5_swap.data.toList.drop 67 = dktX5_swap_3 := dk_seg dksX5_swap_2 22 rfl rfl
theorem dksX5_swap_4 : cX5_swap.data.toList.drop 91 = dktX5_swap_4 := dk_seg dksX5_swap_3 24 rfl rfl
theorem dksX5_swap_5 : cX5_swap.data.toList.drop 113 = dktX5_swap_5 := dk_seg dksX5_swap_4 22 rfl rfl
theorem dX5_swap_0 : decode cX5_swap 0 = .ok (.aload_n 0, 1) := dk_42 (dk_at dksX5_swap_0 0 rfl rfl)
theorem dX5_swap_1 : decode cX5_swap 1 = .ok (.invokevirtual 290, 3) := dk_182 1 34 (dk_at dksX5_swap_0 1 rfl rfl)
theorem dX5_swap_4 : decode cX5_swap 4 = .ok (.istore_n 1, 1) := dk_60 (dk_at dksX5_swap_0 4 rfl rfl)
theorem dX5_swap_5 : decode cX5_swap 5 = .ok (.iconst 0, 1) := dk_3 (dk_at dksX5_swap_0 5 rfl rfl)
theorem dX5_swap_6 : decode cX5_swap 6 = .ok (.istore_n 2, 1) := dk_61 (dk_at dksX5_swap_0 6 rfl rfl)
theorem dX5_swap_7 : decode cX5_swap 7 = .ok (.iload_n 2, 1) := dk_28 (dk_at dksX5_swap_0 7 rfl rfl)
theorem dX5_swap_8 : decode cX5_swap 8 = .ok (.aload_n 0, 1) := dk_42 (dk_at dksX5_swap_0 8 rfl rfl)
theorem dX5_swap_9 : decode cX5_swap 9 = .ok (.getfield 89, 3) := dk_180 0 89 (dk_at dksX5_swap_0 9 rfl rfl)
theorem dX5_swap_12 : decode cX5_swap 12 = .ok (.if_icmp .ge 111, 3) := dk_162 0 111 (dk_at dksX5_swap_0 12 rfl rfl)
theorem dX5_swap_15 : decode cX5_swap 15 = .ok (.aload_n 0, 1) := dk_42 (dk_at dksX5_swap_0 15 rfl rfl)
theorem dX5_swap_16 : decode cX5_swap 16 = .ok (.getfield 28, 3) := dk_180 0 28 (dk_at dksX5_swap_0 16 rfl rfl)
theorem dX5_swap_19 : decode cX5_swap 19 = .ok (.iload_n 2, 1) := dk_28 (dk_at dksX5_swap_0 19 rfl rfl)
theorem dX5_swap_20 : decode cX5_swap 20 = .ok (.iaload, 1) := dk_46 (dk_at dksX5_swap_0 20 rfl rfl)
theorem dX5_swap_21 : decode cX5_swap 21 = .ok (.iconst (-1), 1) := dk_2 (dk_at dksX5_swap_0 21 rfl rfl)
theorem dX5_swap_22 : decode cX5_swap 22 = .ok (.if_icmp .ne 6, 3) := dk_160 0 6 (dk_at dksX5_swap_1 0 rfl rfl)
theorem dX5_swap_25 : decode cX5_swap 25 = .ok (.goto 92, 3) := dk_167 0 92 (dk_at dksX5_swap_1 3 rfl rfl)
theorem dX5_swap_28 : decode cX5_swap 28 = .ok (.aload_n 0, 1) := dk_42 (dk_at dksX5_swap_1 6 rfl rfl)
theorem dX5_swap_29 : decode cX5_swap 29 = .ok (.getfield 31, 3) := dk_180 0 31 (dk_at dksX5_swap_1 7 rfl rfl)
theorem dX5_swap_32 : decode cX5_swap 32 = .ok (.bipush 8, 2) := dk_16 8 (dk_at dksX5_swap_1 10 rfl rfl)
theorem dX5_swap_34 : decode cX5_swap 34 = .ok (.iload_n 2, 1) := dk_28 (dk_at dksX5_swap_1 12 rfl rfl)
theorem dX5_swap_35 : decode cX5_swap 35 = .ok (.imul, 1) := dk_104 (dk_at dksX5_swap_1 13 rfl rfl)
theorem dX5_swap_36 : decode cX5_swap 36 = .ok (.aload_n 0, 1) := dk_42 (dk_at dksX5_swap_1 14 rfl rfl)
theorem dX5_swap_37 : decode cX5_swap 37 = .ok (.getfield 28, 3) := dk_180 0 28 (dk_at dksX5_swap_1 15 rfl rfl)
theorem dX5_swap_40 : decode cX5_swap 40 = .ok (.iload_n 2, 1) := dk_28 (dk_at dksX5_swap_1 18 rfl rfl)
theorem dX5_swap_41 : decode cX5_swap 41 = .ok (.iaload, 1) := dk_46 (dk_at dksX5_swap_1 19 rfl rfl)
theorem dX5_swap_42 : decode cX5_swap 42 = .ok (.iadd, 1) := dk_96 (dk_at dksX5_swap_1 20 rfl rfl)
theorem dX5_swap_43 : decode cX5_swap 43 = .ok (.iconst 0, 1) := dk_3 (dk_at dksX5_swap_1 21 rfl rfl)
theorem dX5_swap_44 : decode cX5_swap 44 = .ok (.aload_n 0, 1) := dk_42 (dk_at dksX5_swap_1 22 rfl rfl)
theorem dX5_swap_45 : decode cX5_swap 45 = .ok (.getfield 31, 3) := dk_180 0 31 (dk_at dksX5_swap_2 0 rfl rfl)
theorem dX5_swap_48 : decode cX5_swap 48 = .ok (.bipush 8, 2) := dk_16 8 (dk_at dksX5_swap_2 3 rfl rfl)
theorem dX5_swap_50 : decode cX5_swap 50 = .ok (.iload_n 2, 1) := dk_28 (dk_at dksX5_swap_2 5 rfl rfl)
theorem dX5_swap_51 : decode cX5_swap 51 = .ok (.imul, 1) := dk_104 (dk_at dksX5_swap_2 6 rfl rfl)
theorem dX5_swap_52 : decode cX5_swap 52 = .ok (.aload_n 0, 1) := dk_42 (dk_at dksX5_swap_2 7 rfl rfl)
theorem dX5_swap_53 : decode cX5_swap 53 = .ok (.getfield 28, 3) := dk_180 0 28 (dk_at dksX5_swap_2 8 rfl rfl)
theorem dX5_swap_56 : decode cX5_swap 56 = .ok (.iload_n 2, 1) := dk_28 (dk_at dksX5_swap_2 11 rfl rfl)
theorem dX5_swap_57 : decode cX5_swap 57 = .ok (.iaload, 1) := dk_46 (dk_at dksX5_swap_2 12 rfl rfl)
theorem dX5_swap_58 : decode cX5_swap 58 = .ok (.iadd, 1) := dk_96 (dk_at dksX5_swap_2 13 rfl rfl)
theorem dX5_swap_59 : decode cX5_swap 59 = .ok (.iaload, 1) := dk_46 (dk_at dksX5_swap_2 14 rfl rfl)
theorem dX5_swap_60 : decode cX5_swap 60 = .ok (.iconst 1, 1) := dk_4 (dk_at dksX5_swap_2 15 rfl rfl)
theorem dX5_swap_61 : decode cX5_swap 61 = .ok (.isub, 1) := dk_100 (dk_at dksX5_swap_2 16 rfl rfl)
theorem dX5_swap_62 : decode cX5_swap 62 = .ok (.invokestatic 310, 3) := dk_184 1 54 (dk_at dksX5_swap_2 17 rfl rfl)
theorem dX5_swap_65 : decode cX5_swap 65 = .ok (.iastore, 1) := dk_79 (dk_at dksX5_swap_2 20 rfl rfl)
theorem dX5_swap_66 : decode cX5_swap 66 = .ok (.aload_n 0, 1) := dk_42 (dk_at dksX5_swap_2 21 rfl rfl)
theorem dX5_swap_67 : decode cX5_swap 67 = .ok (.getfield 28, 3) := dk_180 0 28 (dk_at dksX5_swap_3 0 rfl rfl)
theorem dX5_swap_70 : decode cX5_swap 70 = .ok (.iload_n 2, 1) := dk_28 (dk_at dksX5_swap_3 3 rfl rfl)
theorem dX5_swap_71 : decode cX5_swap 71 = .ok (.aload_n 0, 1) := dk_42 (dk_at dksX5_swap_3 4 rfl rfl)
theorem dX5_swap_72 : decode cX5_swap 72 = .ok (.getfield 75, 3) := dk_180 0 75 (dk_at dksX5_swap_3 5 rfl rfl)
theorem dX5_swap_75 : decode cX5_swap 75 = .ok (.iload_n 2, 1) := dk_28 (dk_at dksX5_swap_3 8 rfl rfl)
theorem dX5_swap_76 : decode cX5_swap 76 = .ok (.iaload, 1) := dk_46 (dk_at dksX5_swap_3 9 rfl rfl)
theorem dX5_swap_77 : decode cX5_swap 77 = .ok (.iastore, 1) := dk_79 (dk_at dksX5_swap_3 10 rfl rfl)
theorem dX5_swap_78 : decode cX5_swap 78 = .ok (.aload_n 0, 1) := dk_42 (dk_at dksX5_swap_3 11 rfl rfl)
theorem dX5_swap_79 : decode cX5_swap 79 = .ok (.getfield 31, 3) := dk_180 0 31 (dk_at dksX5_swap_3 12 rfl rfl)
theorem dX5_swap_82 : decode cX5_swap 82 = .ok (.bipush 8, 2) := dk_16 8 (dk_at dksX5_swap_3 15 rfl rfl)
theorem dX5_swap_84 : decode cX5_swap 84 = .ok (.iload_n 2, 1) := dk_28 (dk_at dksX5_swap_3 17 rfl rfl)
theorem dX5_swap_85 : decode cX5_swap 85 = .ok (.imul, 1) := dk_104 (dk_at dksX5_swap_3 18 rfl rfl)
theorem dX5_swap_86 : decode cX5_swap 86 = .ok (.aload_n 0, 1) := dk_42 (dk_at dksX5_swap_3 19 rfl rfl)
theorem dX5_swap_87 : decode cX5_swap 87 = .ok (.getfield 28, 3) := dk_180 0 28 (dk_at dksX5_swap_3 20 rfl rfl)
theorem dX5_swap_90 : decode cX5_swap 90 = .ok (.iload_n 2, 1) := dk_28 (dk_at dksX5_swap_3 23 rfl rfl)
theorem dX5_swap_91 : decode cX5_swap 91 = .ok (.iaload, 1) := dk_46 (dk_at dksX5_swap_4 0 rfl rfl)
theorem dX5_swap_92 : decode cX5_swap 92 = .ok (.iadd, 1) := dk_96 (dk_at dksX5_swap_4 1 rfl rfl)
theorem dX5_swap_93 : decode cX5_swap 93 = .ok (.bipush 99, 2) := dk_16 99 (dk_at dksX5_swap_4 2 rfl rfl)
theorem dX5_swap_95 : decode cX5_swap 95 = .ok (.aload_n 0, 1) := dk_42 (dk_at dksX5_swap_4 4 rfl rfl)
theorem dX5_swap_96 : decode cX5_swap 96 = .ok (.getfield 31, 3) := dk_180 0 31 (dk_at dksX5_swap_4 5 rfl rfl)
theorem dX5_swap_99 : decode cX5_swap 99 = .ok (.bipush 8, 2) := dk_16 8 (dk_at dksX5_swap_4 8 rfl rfl)
theorem dX5_swap_101 : decode cX5_swap 101 = .ok (.iload_n 2, 1) := dk_28 (dk_at dksX5_swap_4 10 rfl rfl)
theorem dX5_swap_102 : decode cX5_swap 102 = .ok (.imul, 1) := dk_104 (dk_at dksX5_swap_4 11 rfl rfl)
theorem dX5_swap_103 : decode cX5_swap 103 = .ok (.aload_n 0, 1) := dk_42 (dk_at dksX5_swap_4 12 rfl rfl)
theorem dX5_swap_104 : decode cX5_swap 104 = .ok (.getfield 28, 3) := dk_180 0 28 (dk_at dksX5_swap_4 13 rfl rfl)
theorem dX5_swap_107 : decode cX5_swap 107 = .ok (.iload_n 2, 1) := dk_28 (dk_at dksX5_swap_4 16 rfl rfl)
theorem dX5_swap_108 : decode cX5_swap 108 = .ok (.iaload, 1) := dk_46 (dk_at dksX5_swap_4 17 rfl rfl)
theorem dX5_swap_109 : decode cX5_swap 109 = .ok (.iadd, 1) := dk_96 (dk_at dksX5_swap_4 18 rfl rfl)
theorem dX5_swap_110 : decode cX5_swap 110 = .ok (.iaload, 1) := dk_46 (dk_at dksX5_swap_4 19 rfl rfl)
theorem dX5_swap_111 : decode cX5_swap 111 = .ok (.iconst 1, 1) := dk_4 (dk_at dksX5_swap_4 20 rfl rfl)
theorem dX5_swap_112 : decode cX5_swap 112 = .ok (.iadd, 1) := dk_96 (dk_at dksX5_swap_4 21 rfl rfl)
theorem dX5_swap_113 : decode cX5_swap 113 = .ok (.invokestatic 299, 3) := dk_184 1 43 (dk_at dksX5_swap_5 0 rfl rfl)
theorem dX5_swap_116 : decode cX5_swap 116 = .ok (.iastore, 1) := dk_79 (dk_at dksX5_swap_5 3 rfl rfl)
theorem dX5_swap_117 : decode cX5_swap 117 = .ok (.iinc 2 1, 3) := dk_132 2 1 (dk_at dksX5_swap_5 4 rfl rfl)
theorem dX5_swap_120 : decode cX5_swap 120 = .ok (.goto (-113), 3) := dk_167 255 143 (dk_at dksX5_swap_5 7 rfl rfl)
theorem dX5_swap_123 : decode cX5_swap 123 = .ok (.iload_n 1, 1) := dk_27 (dk_at dksX5_swap_5 10 rfl rfl)
theorem dX5_swap_124 : decode cX5_swap 124 = .ok (.ireturn, 1) := dk_172 (dk_at dksX5_swap_5 11 rfl rfl)
abbrev cX5_christmases : ByteArray := prog_17_method_97_code
def yX5_christmases : MethodName := ⟨RX5, "christmases", "(I)I"⟩
def dkwX5_christmases_5 : List UInt8 := [132, 5, 1, 167, 255, 222, 132, 3, 1, 167, 255, 153, 28, 172]
abbrev dktX5_christmases_5 : List UInt8 := dkwX5_christmases_5 ++ []
def dkwX5_christmases_4 : List UInt8 := [180, 0, 9, 21, 5, 46, 2, 160, 0, 16, 42, 180, 0, 9, 21, 5, 42, 16, 8, 182, 1, 58, 79]
abbrev dktX5_christmases_4 : List UInt8 := dkwX5_christmases_4 ++ dktX5_christmases_5
def dkwX5_christmases_3 : List UInt8 := [167, 255, 219, 28, 42, 21, 4, 182, 1, 51, 96, 61, 3, 54, 5, 21, 5, 16, 12, 162, 0, 33, 42]
abbrev dktX5_christmases_3 : List UInt8 := dkwX5_christmases_3 ++ dktX5_christmases_4
def dkwX5_christmases_2 : List UInt8 := [42, 180, 0, 25, 21, 5, 46, 162, 0, 12, 21, 4, 4, 21, 5, 120, 128, 54, 4, 132, 5, 1]
abbrev dktX5_christmases_2 : List UInt8 := dkwX5_christmases_2 ++ dktX5_christmases_3
def dkwX5_christmases_1 : List UInt8 := [162, 0, 104, 3, 54, 4, 3, 54, 5, 21, 5, 42, 180, 0, 89, 162, 0, 34, 42, 16, 12, 182, 1, 58]
abbrev dktX5_christmases_1 : List UInt8 := dkwX5_christmases_1 ++ dktX5_christmases_2
def dkwX5_christmases_0 : List UInt8 := [27, 4, 16, 40, 184, 0, 85, 154, 0, 10, 42, 16, 254, 182, 0, 96, 172, 3, 61, 3, 62, 29, 27]
abbrev dktX5_christmases_0 : List UInt8 := dkwX5_christmases_0 ++ dktX5_christmases_1
theorem dksX5_christmases_0 : cX5_christmases.data.toList.drop 0 = dktX5_christmases_0 := by decide +kernel
theorem dksX5_christmases_1 : cX5_christmases.data.toList.drop 23 = dktX5_christmases_1 := dk_seg dksX5_christmases_0 23 rfl rfl
theorem dksX5_christmases_2 : cX5_christmases.data.toList.drop 47 = dktX5_christmases_2 := dk_seg dksX5_christmases_1 24 rfl rfl
theorem dksX5_christmases_3 : cX5_christmases.data.toList.drop 69 = dktX5_christmases_3 := dk_seg dksX5_christmases_2 22 rfl rfl
theorem dksX5_christmases_4 : cX5_christmases.data.toList.drop 92 = dktX5_christmases_4 := dk_seg dksX5_christmases_3 23 rfl rfl
theorem dksX5_christmases_5 : cX5_christmases.data.toList.drop 115 = dktX5_christmases_5 := dk_seg dksX5_christmases_4 23 rfl rfl
theorem dX5_christmases_0 : decode cX5_christmases 0 = .ok (.iload_n 1, 1) := dk_27 (dk_at dksX5_christmases_0 0 rfl rfl)
theorem dX5_christmases_1 : decode cX5_christmases 1 = .ok (.iconst 1, 1) := dk_4 (dk_at dksX5_christmases_0 1 rfl rfl)
theorem dX5_christmases_2 : decode cX5_christmases 2 = .ok (.bipush 40, 2) := dk_16 40 (dk_at dksX5_christmases_0 2 rfl rfl)
theorem dX5_christmases_4 : decode cX5_christmases 4 = .ok (.invokestatic 85, 3) := dk_184 0 85 (dk_at dksX5_christmases_0 4 rfl rfl)
theorem dX5_christmases_7 : decode cX5_christmases 7 = .ok (.ifCond .ne 10, 3) := dk_154 0 10 (dk_at dksX5_christmases_0 7 rfl rfl)
theorem dX5_christmases_10 : decode cX5_christmases 10 = .ok (.aload_n 0, 1) := dk_42 (dk_at dksX5_christmases_0 10 rfl rfl)
theorem dX5_christmases_11 : decode cX5_christmases 11 = .ok (.bipush (-2), 2) := dk_16 254 (dk_at dksX5_christmases_0 11 rfl rfl)
theorem dX5_christmases_13 : decode cX5_christmases 13 = .ok (.invokevirtual 96, 3) := dk_182 0 96 (dk_at dksX5_christmases_0 13 rfl rfl)
theorem dX5_christmases_16 : decode cX5_christmases 16 = .ok (.ireturn, 1) := dk_172 (dk_at dksX5_christmases_0 16 rfl rfl)
theorem dX5_christmases_17 : decode cX5_christmases 17 = .ok (.iconst 0, 1) := dk_3 (dk_at dksX5_christmases_0 17 rfl rfl)
theorem dX5_christmases_18 : decode cX5_christmases 18 = .ok (.istore_n 2, 1) := dk_61 (dk_at dksX5_christmases_0 18 rfl rfl)
theorem dX5_christmases_19 : decode cX5_christmases 19 = .ok (.iconst 0, 1) := dk_3 (dk_at dksX5_christmases_0 19 rfl rfl)
theorem dX5_christmases_20 : decode cX5_christmases 20 = .ok (.istore_n 3, 1) := dk_62 (dk_at dksX5_christmases_0 20 rfl rfl)
theorem dX5_christmases_21 : decode cX5_christmases 21 = .ok (.iload_n 3, 1) := dk_29 (dk_at dksX5_christmases_0 21 rfl rfl)
theorem dX5_christmases_22 : decode cX5_christmases 22 = .ok (.iload_n 1, 1) := dk_27 (dk_at dksX5_christmases_0 22 rfl rfl)
theorem dX5_christmases_23 : decode cX5_christmases 23 = .ok (.if_icmp .ge 104, 3) := dk_162 0 104 (dk_at dksX5_christmases_1 0 rfl rfl)
theorem dX5_christmases_26 : decode cX5_christmases 26 = .ok (.iconst 0, 1) := dk_3 (dk_at dksX5_christmases_1 3 rfl rfl)
theorem dX5_christmases_27 : decode cX5_christmases 27 = .ok (.istore 4, 2) := dk_54 4 (dk_at dksX5_christmases_1 4 rfl rfl)
theorem dX5_christmases_29 : decode cX5_christmases 29 = .ok (.iconst 0, 1) := dk_3 (dk_at dksX5_christmases_1 6 rfl rfl)
theorem dX5_christmases_30 : decode cX5_christmases 30 = .ok (.istore 5, 2) := dk_54 5 (dk_at dksX5_christmases_1 7 rfl rfl)
theorem dX5_christmases_32 : decode cX5_christmases 32 = .ok (.iload 5, 2) := dk_21 5 (dk_at dksX5_christmases_1 9 rfl rfl)
theorem dX5_christmases_34 : decode cX5_christmases 34 = .ok (.aload_n 0, 1) := dk_42 (dk_at dksX5_christmases_1 11 rfl rfl)
theorem dX5_christmases_35 : decode cX5_christmases 35 = .ok (.getfield 89, 3) := dk_180 0 89 (dk_at dksX5_christmases_1 12 rfl rfl)
theorem dX5_christmases_38 : decode cX5_christmases 38 = .ok (.if_icmp .ge 34, 3) := dk_162 0 34 (dk_at dksX5_christmases_1 15 rfl rfl)
theorem dX5_christmases_41 : decode cX5_christmases 41 = .ok (.aload_n 0, 1) := dk_42 (dk_at dksX5_christmases_1 18 rfl rfl)
theorem dX5_christmases_42 : decode cX5_christmases 42 = .ok (.bipush 12, 2) := dk_16 12 (dk_at dksX5_christmases_1 19 rfl rfl)
theorem dX5_christmases_44 : decode cX5_christmases 44 = .ok (.invokevirtual 314, 3) := dk_182 1 58 (dk_at dksX5_christmases_1 21 rfl rfl)
theorem dX5_christmases_47 : decode cX5_christmases 47 = .ok (.aload_n 0, 1) := dk_42 (dk_at dksX5_christmases_2 0 rfl rfl)
theorem dX5_christmases_48 : decode cX5_christmases 48 = .ok (.getfield 25, 3) := dk_180 0 25 (dk_at dksX5_christmases_2 1 rfl rfl)
theorem dX5_christmases_51 : decode cX5_christmases 51 = .ok (.iload 5, 2) := dk_21 5 (dk_at dksX5_christmases_2 4 rfl rfl)
theorem dX5_christmases_53 : decode cX5_christmases 53 = .ok (.iaload, 1) := dk_46 (dk_at dksX5_christmases_2 6 rfl rfl)
theorem dX5_christmases_54 : decode cX5_christmases 54 = .ok (.if_icmp .ge 12, 3) := dk_162 0 12 (dk_at dksX5_christmases_2 7 rfl rfl)
theorem dX5_christmases_57 : decode cX5_christmases 57 = .ok (.iload 4, 2) := dk_21 4 (dk_at dksX5_christmases_2 10 rfl rfl)
theorem dX5_christmases_59 : decode cX5_christmases 59 = .ok (.iconst 1, 1) := dk_4 (dk_at dksX5_christmases_2 12 rfl rfl)
theorem dX5_christmases_60 : decode cX5_christmases 60 = .ok (.iload 5, 2) := dk_21 5 (dk_at dksX5_christmases_2 13 rfl rfl)
theorem dX5_christmases_62 : decode cX5_christmases 62 = .ok (.ishl, 1) := dk_120 (dk_at dksX5_christmases_2 15 rfl rfl)
theorem dX5_christmases_63 : decode cX5_christmases 63 = .ok (.ior, 1) := dk_128 (dk_at dksX5_christmases_2 16 rfl rfl)
theorem dX5_christmases_64 : decode cX5_christmases 64 = .ok (.istore 4, 2) := dk_54 4 (dk_at dksX5_christmases_2 17 rfl rfl)
theorem dX5_christmases_66 : decode cX5_christmases 66 = .ok (.iinc 5 1, 3) := dk_132 5 1 (dk_at dksX5_christmases_2 19 rfl rfl)
theorem dX5_christmases_69 : decode cX5_christmases 69 = .ok (.goto (-37), 3) := dk_167 255 219 (dk_at dksX5_christmases_3 0 rfl rfl)
theorem dX5_christmases_72 : decode cX5_christmases 72 = .ok (.iload_n 2, 1) := dk_28 (dk_at dksX5_christmases_3 3 rfl rfl)
theorem dX5_christmases_73 : decode cX5_christmases 73 = .ok (.aload_n 0, 1) := dk_42 (dk_at dksX5_christmases_3 4 rfl rfl)
theorem dX5_christmases_74 : decode cX5_christmases 74 = .ok (.iload 4, 2) := dk_21 4 (dk_at dksX5_christmases_3 5 rfl rfl)
theorem dX5_christmases_76 : decode cX5_christmases 76 = .ok (.invokevirtual 307, 3) := dk_182 1 51 (dk_at dksX5_christmases_3 7 rfl rfl)
theorem dX5_christmases_79 : decode cX5_christmases 79 = .ok (.iadd, 1) := dk_96 (dk_at dksX5_christmases_3 10 rfl rfl)
theorem dX5_christmases_80 : decode cX5_christmases 80 = .ok (.istore_n 2, 1) := dk_61 (dk_at dksX5_christmases_3 11 rfl rfl)
theorem dX5_christmases_81 : decode cX5_christmases 81 = .ok (.iconst 0, 1) := dk_3 (dk_at dksX5_christmases_3 12 rfl rfl)
theorem dX5_christmases_82 : decode cX5_christmases 82 = .ok (.istore 5, 2) := dk_54 5 (dk_at dksX5_christmases_3 13 rfl rfl)
theorem dX5_christmases_84 : decode cX5_christmases 84 = .ok (.iload 5, 2) := dk_21 5 (dk_at dksX5_christmases_3 15 rfl rfl)
theorem dX5_christmases_86 : decode cX5_christmases 86 = .ok (.bipush 12, 2) := dk_16 12 (dk_at dksX5_christmases_3 17 rfl rfl)
theorem dX5_christmases_88 : decode cX5_christmases 88 = .ok (.if_icmp .ge 33, 3) := dk_162 0 33 (dk_at dksX5_christmases_3 19 rfl rfl)
theorem dX5_christmases_91 : decode cX5_christmases 91 = .ok (.aload_n 0, 1) := dk_42 (dk_at dksX5_christmases_3 22 rfl rfl)
theorem dX5_christmases_92 : decode cX5_christmases 92 = .ok (.getfield 9, 3) := dk_180 0 9 (dk_at dksX5_christmases_4 0 rfl rfl)
theorem dX5_christmases_95 : decode cX5_christmases 95 = .ok (.iload 5, 2) := dk_21 5 (dk_at dksX5_christmases_4 3 rfl rfl)
theorem dX5_christmases_97 : decode cX5_christmases 97 = .ok (.iaload, 1) := dk_46 (dk_at dksX5_christmases_4 5 rfl rfl)
theorem dX5_christmases_98 : decode cX5_christmases 98 = .ok (.iconst (-1), 1) := dk_2 (dk_at dksX5_christmases_4 6 rfl rfl)
theorem dX5_christmases_99 : decode cX5_christmases 99 = .ok (.if_icmp .ne 16, 3) := dk_160 0 16 (dk_at dksX5_christmases_4 7 rfl rfl)
theorem dX5_christmases_102 : decode cX5_christmases 102 = .ok (.aload_n 0, 1) := dk_42 (dk_at dksX5_christmases_4 10 rfl rfl)
theorem dX5_christmases_103 : decode cX5_christmases 103 = .ok (.getfield 9, 3) := dk_180 0 9 (dk_at dksX5_christmases_4 11 rfl rfl)
theorem dX5_christmases_106 : decode cX5_christmases 106 = .ok (.iload 5, 2) := dk_21 5 (dk_at dksX5_christmases_4 14 rfl rfl)
theorem dX5_christmases_108 : decode cX5_christmases 108 = .ok (.aload_n 0, 1) := dk_42 (dk_at dksX5_christmases_4 16 rfl rfl)
theorem dX5_christmases_109 : decode cX5_christmases 109 = .ok (.bipush 8, 2) := dk_16 8 (dk_at dksX5_christmases_4 17 rfl rfl)
theorem dX5_christmases_111 : decode cX5_christmases 111 = .ok (.invokevirtual 314, 3) := dk_182 1 58 (dk_at dksX5_christmases_4 19 rfl rfl)
theorem dX5_christmases_114 : decode cX5_christmases 114 = .ok (.iastore, 1) := dk_79 (dk_at dksX5_christmases_4 22 rfl rfl)
theorem dX5_christmases_115 : decode cX5_christmases 115 = .ok (.iinc 5 1, 3) := dk_132 5 1 (dk_at dksX5_christmases_5 0 rfl rfl)
theorem dX5_christmases_118 : decode cX5_christmases 118 = .ok (.goto (-34), 3) := dk_167 255 222 (dk_at dksX5_christmases_5 3 rfl rfl)
theorem dX5_christmases_121 : decode cX5_christmases 121 = .ok (.iinc 3 1, 3) := dk_132 3 1 (dk_at dksX5_christmases_5 6 rfl rfl)
theorem dX5_christmases_124 : decode cX5_christmases 124 = .ok (.goto (-103), 3) := dk_167 255 153 (dk_at dksX5_christmases_5 9 rfl rfl)
theorem dX5_christmases_127 : decode cX5_christmases 127 = .ok (.iload_n 2, 1) := dk_28 (dk_at dksX5_christmases_5 12 rfl rfl)
theorem dX5_christmases_128 : decode cX5_christmases 128 = .ok (.ireturn, 1) := dk_172 (dk_at dksX5_christmases_5 13 rfl rfl)
abbrev cX5_draw : ByteArray := prog_17_method_96_code
def yX5_draw : MethodName := ⟨RX5, "draw", "(I)I"⟩
def dkwX5_draw_1 : List UInt8 := [112, 172]
abbrev dktX5_draw_1 : List UInt8 := dkwX5_draw_1 ++ []
def dkwX5_draw_0 : List UInt8 := [42, 42, 180, 0, 81, 19, 1, 57, 104, 17, 48, 57, 96, 181, 0, 81, 42, 180, 0, 81, 16, 16, 124, 27]
abbrev dktX5_draw_0 : List UInt8 := dkwX5_draw_0 ++ dktX5_draw_1
theorem dksX5_draw_0 : cX5_draw.data.toList.drop 0 = dktX5_draw_0 := by decide +kernel
theorem dksX5_draw_1 : cX5_draw.data.toList.drop 24 = dktX5_draw_1 := dk_seg dksX5_draw_0 24 rfl rfl
theorem dX5_draw_0 : decode cX5_draw 0 = .ok (.aload_n 0, 1) := dk_42 (dk_at dksX5_draw_0 0 rfl rfl)
theorem dX5_draw_1 : decode cX5_draw 1 = .ok (.aload_n 0, 1) := dk_42 (dk_at dksX5_draw_0 1 rfl rfl)
theorem dX5_draw_2 : decode cX5_draw 2 = .ok (.getfield 81, 3) := dk_180 0 81 (dk_at dksX5_draw_0 2 rfl rfl)
theorem dX5_draw_5 : decode cX5_draw 5 = .ok (.ldc_w 313, 3) := dk_19 1 57 (dk_at dksX5_draw_0 5 rfl rfl)
theorem dX5_draw_8 : decode cX5_draw 8 = .ok (.imul, 1) := dk_104 (dk_at dksX5_draw_0 8 rfl rfl)
theorem dX5_draw_9 : decode cX5_draw 9 = .ok (.sipush 12345, 3) := dk_17 48 57 (dk_at dksX5_draw_0 9 rfl rfl)
theorem dX5_draw_12 : decode cX5_draw 12 = .ok (.iadd, 1) := dk_96 (dk_at dksX5_draw_0 12 rfl rfl)
theorem dX5_draw_13 : decode cX5_draw 13 = .ok (.putfield 81, 3) := dk_181 0 81 (dk_at dksX5_draw_0 13 rfl rfl)
theorem dX5_draw_16 : decode cX5_draw 16 = .ok (.aload_n 0, 1) := dk_42 (dk_at dksX5_draw_0 16 rfl rfl)
theorem dX5_draw_17 : decode cX5_draw 17 = .ok (.getfield 81, 3) := dk_180 0 81 (dk_at dksX5_draw_0 17 rfl rfl)
theorem dX5_draw_20 : decode cX5_draw 20 = .ok (.bipush 16, 2) := dk_16 16 (dk_at dksX5_draw_0 20 rfl rfl)
theorem dX5_draw_22 : decode cX5_draw 22 = .ok (.iushr, 1) := dk_124 (dk_at dksX5_draw_0 22 rfl rfl)
theorem dX5_draw_23 : decode cX5_draw 23 = .ok (.iload_n 1, 1) := dk_27 (dk_at dksX5_draw_0 23 rfl rfl)
theorem dX5_draw_24 : decode cX5_draw 24 = .ok (.irem, 1) := dk_112 (dk_at dksX5_draw_1 0 rfl rfl)
theorem dX5_draw_25 : decode cX5_draw 25 = .ok (.ireturn, 1) := dk_172 (dk_at dksX5_draw_1 1 rfl rfl)
abbrev cX5_seed : ByteArray := prog_17_method_98_code
def yX5_seed : MethodName := ⟨RX5, "seed", "(I)I"⟩
def dkwX5_seed_0 : List UInt8 := [42, 180, 0, 81, 61, 42, 27, 181, 0, 81, 28, 172]
abbrev dktX5_seed_0 : List UInt8 := dkwX5_seed_0 ++ []
theorem dksX5_seed_0 : cX5_seed.data.toList.drop 0 = dktX5_seed_0 := by decide +kernel
theorem dX5_seed_0 : decode cX5_seed 0 = .ok (.aload_n 0, 1) := dk_42 (dk_at dksX5_seed_0 0 rfl rfl)
theorem dX5_seed_1 : decode cX5_seed 1 = .ok (.getfield 81, 3) := dk_180 0 81 (dk_at dksX5_seed_0 1 rfl rfl)
theorem dX5_seed_4 : decode cX5_seed 4 = .ok (.istore_n 2, 1) := dk_61 (dk_at dksX5_seed_0 4 rfl rfl)
theorem dX5_seed_5 : decode cX5_seed 5 = .ok (.aload_n 0, 1) := dk_42 (dk_at dksX5_seed_0 5 rfl rfl)
theorem dX5_seed_6 : decode cX5_seed 6 = .ok (.iload_n 1, 1) := dk_27 (dk_at dksX5_seed_0 6 rfl rfl)
theorem dX5_seed_7 : decode cX5_seed 7 = .ok (.putfield 81, 3) := dk_181 0 81 (dk_at dksX5_seed_0 7 rfl rfl)
theorem dX5_seed_10 : decode cX5_seed 10 = .ok (.iload_n 2, 1) := dk_28 (dk_at dksX5_seed_0 10 rfl rfl)
theorem dX5_seed_11 : decode cX5_seed 11 = .ok (.ireturn, 1) := dk_172 (dk_at dksX5_seed_0 11 rfl rfl)
abbrev cX5_image : ByteArray := prog_17_method_101_code
def yX5_image : MethodName := ⟨RX5, "image", "()I"⟩
def dkwX5_image_0 : List UInt8 := [42, 4, 181, 1, 61, 42, 42, 180, 0, 50, 182, 0, 183, 4, 172]
abbrev dktX5_image_0 : List UInt8 := dkwX5_image_0 ++ []
theorem dksX5_image_0 : cX5_image.data.toList.drop 0 = dktX5_image_0 := by decide +kernel
theorem dX5_image_0 : decode cX5_image 0 = .ok (.aload_n 0, 1) := dk_42 (dk_at dksX5_image_0 0 rfl rfl)
theorem dX5_image_1 : decode cX5_image 1 = .ok (.iconst 1, 1) := dk_4 (dk_at dksX5_image_0 1 rfl rfl)
theorem dX5_image_2 : decode cX5_image 2 = .ok (.putfield 317, 3) := dk_181 1 61 (dk_at dksX5_image_0 2 rfl rfl)
theorem dX5_image_5 : decode cX5_image 5 = .ok (.aload_n 0, 1) := dk_42 (dk_at dksX5_image_0 5 rfl rfl)
theorem dX5_image_6 : decode cX5_image 6 = .ok (.aload_n 0, 1) := dk_42 (dk_at dksX5_image_0 6 rfl rfl)
theorem dX5_image_7 : decode cX5_image 7 = .ok (.getfield 50, 3) := dk_180 0 50 (dk_at dksX5_image_0 7 rfl rfl)
theorem dX5_image_10 : decode cX5_image 10 = .ok (.invokevirtual 183, 3) := dk_182 0 183 (dk_at dksX5_image_0 10 rfl rfl)
theorem dX5_image_13 : decode cX5_image 13 = .ok (.iconst 1, 1) := dk_4 (dk_at dksX5_image_0 13 rfl rfl)
theorem dX5_image_14 : decode cX5_image 14 = .ok (.ireturn, 1) := dk_172 (dk_at dksX5_image_0 14 rfl rfl)
abbrev cX5_back : ByteArray := prog_17_method_102_code
def yX5_back : MethodName := ⟨RX5, "back", "()I"⟩
def dkwX5_back_2 : List UInt8 := [180, 0, 37, 27, 2, 79, 132, 1, 1, 167, 255, 224, 4, 172]
abbrev dktX5_back_2 : List UInt8 := dkwX5_back_2 ++ []
def dkwX5_back_1 : List UInt8 := [27, 16, 8, 162, 0, 32, 42, 180, 0, 37, 27, 46, 16, 10, 42, 180, 0, 89, 96, 161, 0, 10, 42]
abbrev dktX5_back_1 : List UInt8 := dkwX5_back_1 ++ dktX5_back_2
def dkwX5_back_0 : List UInt8 := [42, 180, 1, 61, 154, 0, 10, 42, 16, 251, 182, 0, 96, 172, 42, 42, 180, 0, 50, 182, 0, 191, 3, 60]
abbrev dktX5_back_0 : List UInt8 := dkwX5_back_0 ++ dktX5_back_1
theorem dksX5_back_0 : cX5_back.data.toList.drop 0 = dktX5_back_0 := by decide +kernel
theorem dksX5_back_1 : cX5_back.data.toList.drop 24 = dktX5_back_1 := dk_seg dksX5_back_0 24 rfl rfl
theorem dksX5_back_2 : cX5_back.data.toList.drop 47 = dktX5_back_2 := dk_seg dksX5_back_1 23 rfl rfl
theorem dX5_back_0 : decode cX5_back 0 = .ok (.aload_n 0, 1) := dk_42 (dk_at dksX5_back_0 0 rfl rfl)
theorem dX5_back_1 : decode cX5_back 1 = .ok (.getfield 317, 3) := dk_180 1 61 (dk_at dksX5_back_0 1 rfl rfl)
theorem dX5_back_4 : decode cX5_back 4 = .ok (.ifCond .ne 10, 3) := dk_154 0 10 (dk_at dksX5_back_0 4 rfl rfl)
theorem dX5_back_7 : decode cX5_back 7 = .ok (.aload_n 0, 1) := dk_42 (dk_at dksX5_back_0 7 rfl rfl)
theorem dX5_back_8 : decode cX5_back 8 = .ok (.bipush (-5), 2) := dk_16 251 (dk_at dksX5_back_0 8 rfl rfl)
theorem dX5_back_10 : decode cX5_back 10 = .ok (.invokevirtual 96, 3) := dk_182 0 96 (dk_at dksX5_back_0 10 rfl rfl)
theorem dX5_back_13 : decode cX5_back 13 = .ok (.ireturn, 1) := dk_172 (dk_at dksX5_back_0 13 rfl rfl)
theorem dX5_back_14 : decode cX5_back 14 = .ok (.aload_n 0, 1) := dk_42 (dk_at dksX5_back_0 14 rfl rfl)
theorem dX5_back_15 : decode cX5_back 15 = .ok (.aload_n 0, 1) := dk_42 (dk_at dksX5_back_0 15 rfl rfl)
theorem dX5_back_16 : decode cX5_back 16 = .ok (.getfield 50, 3) := dk_180 0 50 (dk_at dksX5_back_0 16 rfl rfl)
theorem dX5_back_19 : decode cX5_back 19 = .ok (.invokevirtual 191, 3) := dk_182 0 191 (dk_at dksX5_back_0 19 rfl rfl)
theorem dX5_back_22 : decode cX5_back 22 = .ok (.iconst 0, 1) := dk_3 (dk_at dksX5_back_0 22 rfl rfl)
theorem dX5_back_23 : decode cX5_back 23 = .ok (.istore_n 1, 1) := dk_60 (dk_at dksX5_back_0 23 rfl rfl)
theorem dX5_back_24 : decode cX5_back 24 = .ok (.iload_n 1, 1) := dk_27 (dk_at dksX5_back_1 0 rfl rfl)
theorem dX5_back_25 : decode cX5_back 25 = .ok (.bipush 8, 2) := dk_16 8 (dk_at dksX5_back_1 1 rfl rfl)
theorem dX5_back_27 : decode cX5_back 27 = .ok (.if_icmp .ge 32, 3) := dk_162 0 32 (dk_at dksX5_back_1 3 rfl rfl)
theorem dX5_back_30 : decode cX5_back 30 = .ok (.aload_n 0, 1) := dk_42 (dk_at dksX5_back_1 6 rfl rfl)
theorem dX5_back_31 : decode cX5_back 31 = .ok (.getfield 37, 3) := dk_180 0 37 (dk_at dksX5_back_1 7 rfl rfl)
theorem dX5_back_34 : decode cX5_back 34 = .ok (.iload_n 1, 1) := dk_27 (dk_at dksX5_back_1 10 rfl rfl)
theorem dX5_back_35 : decode cX5_back 35 = .ok (.iaload, 1) := dk_46 (dk_at dksX5_back_1 11 rfl rfl)
theorem dX5_back_36 : decode cX5_back 36 = .ok (.bipush 10, 2) := dk_16 10 (dk_at dksX5_back_1 12 rfl rfl)
theorem dX5_back_38 : decode cX5_back 38 = .ok (.aload_n 0, 1) := dk_42 (dk_at dksX5_back_1 14 rfl rfl)
theorem dX5_back_39 : decode cX5_back 39 = .ok (.getfield 89, 3) := dk_180 0 89 (dk_at dksX5_back_1 15 rfl rfl)
theorem dX5_back_42 : decode cX5_back 42 = .ok (.iadd, 1) := dk_96 (dk_at dksX5_back_1 18 rfl rfl)
theorem dX5_back_43 : decode cX5_back 43 = .ok (.if_icmp .lt 10, 3) := dk_161 0 10 (dk_at dksX5_back_1 19 rfl rfl)
theorem dX5_back_46 : decode cX5_back 46 = .ok (.aload_n 0, 1) := dk_42 (dk_at dksX5_back_1 22 rfl rfl)
theorem dX5_back_47 : decode cX5_back 47 = .ok (.getfield 37, 3) := dk_180 0 37 (dk_at dksX5_back_2 0 rfl rfl)
theorem dX5_back_50 : decode cX5_back 50 = .ok (.iload_n 1, 1) := dk_27 (dk_at dksX5_back_2 3 rfl rfl)
theorem dX5_back_51 : decode cX5_back 51 = .ok (.iconst (-1), 1) := dk_2 (dk_at dksX5_back_2 4 rfl rfl)
theorem dX5_back_52 : decode cX5_back 52 = .ok (.iastore, 1) := dk_79 (dk_at dksX5_back_2 5 rfl rfl)
theorem dX5_back_53 : decode cX5_back 53 = .ok (.iinc 1 1, 3) := dk_132 1 1 (dk_at dksX5_back_2 6 rfl rfl)
theorem dX5_back_56 : decode cX5_back 56 = .ok (.goto (-32), 3) := dk_167 255 224 (dk_at dksX5_back_2 9 rfl rfl)
theorem dX5_back_59 : decode cX5_back 59 = .ok (.iconst 1, 1) := dk_4 (dk_at dksX5_back_2 12 rfl rfl)
theorem dX5_back_60 : decode cX5_back 60 = .ok (.ireturn, 1) := dk_172 (dk_at dksX5_back_2 13 rfl rfl)
abbrev cX5_status : ByteArray := prog_17_method_103_code
def yX5_status : MethodName := ⟨RX5, "status", "(I)I"⟩
def dkwX5_status_8 : List UInt8 := [16, 16, 184, 0, 85, 153, 0, 15, 42, 180, 0, 47, 27, 16, 10, 100, 46, 167, 0, 4, 2, 172]
abbrev dktX5_status_8 : List UInt8 := dkwX5_status_8 ++ []
def dkwX5_status_7 : List UInt8 := [180, 0, 37, 29, 46, 2, 159, 0, 6, 132, 2, 1, 132, 3, 1, 167, 255, 234, 28, 172, 27, 16, 12]
abbrev dktX5_status_7 : List UInt8 := dkwX5_status_7 ++ dktX5_status_8
def dkwX5_status_6 : List UInt8 := [167, 255, 232, 28, 172, 42, 180, 0, 131, 172, 42, 180, 0, 81, 172, 3, 62, 29, 16, 8, 162, 0, 22, 42]
abbrev dktX5_status_6 : List UInt8 := dkwX5_status_6 ++ dktX5_status_7
def dkwX5_status_5 : List UInt8 := [29, 42, 180, 0, 89, 162, 0, 22, 42, 180, 0, 28, 29, 46, 2, 159, 0, 6, 132, 2, 1, 132, 3, 1]
abbrev dktX5_status_5 : List UInt8 := dkwX5_status_5 ++ dktX5_status_6
def dkwX5_status_4 : List UInt8 := [28, 42, 180, 0, 31, 29, 46, 96, 61, 132, 3, 1, 167, 255, 233, 28, 172, 42, 180, 1, 48, 172, 3, 62]
abbrev dktX5_status_4 : List UInt8 := dkwX5_status_4 ++ dktX5_status_5
def dkwX5_status_3 : List UInt8 := [132, 2, 1, 132, 3, 1, 167, 255, 234, 28, 172, 3, 62, 29, 16, 8, 42, 180, 0, 89, 104, 162, 0, 18]
abbrev dktX5_status_3 : List UInt8 := dkwX5_status_3 ++ dktX5_status_4
def dkwX5_status_2 : List UInt8 := [42, 180, 0, 89, 172, 3, 62, 29, 16, 12, 162, 0, 22, 42, 180, 0, 9, 29, 46, 2, 159, 0, 6]
abbrev dktX5_status_2 : List UInt8 := dkwX5_status_2 ++ dktX5_status_3
def dkwX5_status_1 : List UInt8 := [170, 0, 0, 0, 184, 0, 0, 0, 0, 0, 0, 0, 7, 0, 0, 0, 45, 0, 0, 0, 50, 0, 0, 0, 79, 0, 0, 0, 109, 0, 0, 0, 114, 0, 0, 0, 145, 0, 0, 0, 150, 0, 0, 0, 155]
abbrev dktX5_status_1 : List UInt8 := dkwX5_status_1 ++ dktX5_status_2
def dkwX5_status_0 : List UInt8 := [3, 61, 27]
abbrev dktX5_status_0 : List UInt8 := dkwX5_status_0 ++ dktX5_status_1
theorem dksX5_status_0 : cX5_status.data.toList.drop 0 = dktX5_status_0 := by decide +kernel
theorem dksX5_status_1 : cX5_status.data.toList.drop 3 = dktX5_status_1 := dk_seg dksX5_status_0 3 rfl rfl
theorem dksX5_status_2 : cX5_status.data.toList.drop 48 = dktX5_status_2 := dk_seg dksX5_status_1 45 rfl rfl
theorem dksX5_status_3 : cX5_status.data.toList.drop 71 = dktX5_status_3 := dk_seg dksX5_status_2 23 rfl rfl
theorem dksX5_status_4 : cX5_status.data.toList.drop 95 = dktX5_status_4 := dk_seg dksX5_status_3 24 rfl rfl
theorem dksX5_status_5 : cX5_status.data.toList.drop 119 = dktX5_status_5 := dk_seg dksX5_status_4 24 rfl rfl
theorem dksX5_status_6 : cX5_status.data.toList.drop 143 = dktX5_status_6 := dk_seg dksX5_status_5 24 rfl rfl
theorem dksX5_status_7 : cX5_status.data.toList.drop 167 = dktX5_status_7 := dk_seg dksX5_status_6 24 rfl rfl
theorem dksX5_status_8 : cX5_status.data.toList.drop 190 = dktX5_status_8 := dk_seg dksX5_status_7 23 rfl rfl
theorem dX5_status_0 : decode cX5_status 0 = .ok (.iconst 0, 1) := dk_3 (dk_at dksX5_status_0 0 rfl rfl)
theorem dX5_status_1 : decode cX5_status 1 = .ok (.istore_n 2, 1) := dk_61 (dk_at dksX5_status_0 1 rfl rfl)
theorem dX5_status_2 : decode cX5_status 2 = .ok (.iload_n 1, 1) := dk_27 (dk_at dksX5_status_0 2 rfl rfl)
theorem dX5_status_3 : decode cX5_status 3 = .ok (.tableswitch 184 0 7 #[45, 50, 79, 109, 114, 145, 150, 155], 45) := by decide +kernel
theorem dX5_status_48 : decode cX5_status 48 = .ok (.aload_n 0, 1) := dk_42 (dk_at dksX5_status_2 0 rfl rfl)
theorem dX5_status_49 : decode cX5_status 49 = .ok (.getfield 89, 3) := dk_180 0 89 (dk_at dksX5_status_2 1 rfl rfl)
theorem dX5_status_52 : decode cX5_status 52 = .ok (.ireturn, 1) := dk_172 (dk_at dksX5_status_2 4 rfl rfl)
theorem dX5_status_53 : decode cX5_status 53 = .ok (.iconst 0, 1) := dk_3 (dk_at dksX5_status_2 5 rfl rfl)
theorem dX5_status_54 : decode cX5_status 54 = .ok (.istore_n 3, 1) := dk_62 (dk_at dksX5_status_2 6 rfl rfl)
theorem dX5_status_55 : decode cX5_status 55 = .ok (.iload_n 3, 1) := dk_29 (dk_at dksX5_status_2 7 rfl rfl)
theorem dX5_status_56 : decode cX5_status 56 = .ok (.bipush 12, 2) := dk_16 12 (dk_at dksX5_status_2 8 rfl rfl)
theorem dX5_status_58 : decode cX5_status 58 = .ok (.if_icmp .ge 22, 3) := dk_162 0 22 (dk_at dksX5_status_2 10 rfl rfl)
theorem dX5_status_61 : decode cX5_status 61 = .ok (.aload_n 0, 1) := dk_42 (dk_at dksX5_status_2 13 rfl rfl)
theorem dX5_status_62 : decode cX5_status 62 = .ok (.getfield 9, 3) := dk_180 0 9 (dk_at dksX5_status_2 14 rfl rfl)
theorem dX5_status_65 : decode cX5_status 65 = .ok (.iload_n 3, 1) := dk_29 (dk_at dksX5_status_2 17 rfl rfl)
theorem dX5_status_66 : decode cX5_status 66 = .ok (.iaload, 1) := dk_46 (dk_at dksX5_status_2 18 rfl rfl)
theorem dX5_status_67 : decode cX5_status 67 = .ok (.iconst (-1), 1) := dk_2 (dk_at dksX5_status_2 19 rfl rfl)
theorem dX5_status_68 : decode cX5_status 68 = .ok (.if_icmp .eq 6, 3) := dk_159 0 6 (dk_at dksX5_status_2 20 rfl rfl)
theorem dX5_status_71 : decode cX5_status 71 = .ok (.iinc 2 1, 3) := dk_132 2 1 (dk_at dksX5_status_3 0 rfl rfl)
theorem dX5_status_74 : decode cX5_status 74 = .ok (.iinc 3 1, 3) := dk_132 3 1 (dk_at dksX5_status_3 3 rfl rfl)
theorem dX5_status_77 : decode cX5_status 77 = .ok (.goto (-22), 3) := dk_167 255 234 (dk_at dksX5_status_3 6 rfl rfl)
theorem dX5_status_80 : decode cX5_status 80 = .ok (.iload_n 2, 1) := dk_28 (dk_at dksX5_status_3 9 rfl rfl)
theorem dX5_status_81 : decode cX5_status 81 = .ok (.ireturn, 1) := dk_172 (dk_at dksX5_status_3 10 rfl rfl)
theorem dX5_status_82 : decode cX5_status 82 = .ok (.iconst 0, 1) := dk_3 (dk_at dksX5_status_3 11 rfl rfl)
theorem dX5_status_83 : decode cX5_status 83 = .ok (.istore_n 3, 1) := dk_62 (dk_at dksX5_status_3 12 rfl rfl)
theorem dX5_status_84 : decode cX5_status 84 = .ok (.iload_n 3, 1) := dk_29 (dk_at dksX5_status_3 13 rfl rfl)
theorem dX5_status_85 : decode cX5_status 85 = .ok (.bipush 8, 2) := dk_16 8 (dk_at dksX5_status_3 14 rfl rfl)
theorem dX5_status_87 : decode cX5_status 87 = .ok (.aload_n 0, 1) := dk_42 (dk_at dksX5_status_3 16 rfl rfl)
theorem dX5_status_88 : decode cX5_status 88 = .ok (.getfield 89, 3) := dk_180 0 89 (dk_at dksX5_status_3 17 rfl rfl)
theorem dX5_status_91 : decode cX5_status 91 = .ok (.imul, 1) := dk_104 (dk_at dksX5_status_3 20 rfl rfl)
theorem dX5_status_92 : decode cX5_status 92 = .ok (.if_icmp .ge 18, 3) := dk_162 0 18 (dk_at dksX5_status_3 21 rfl rfl)
theorem dX5_status_95 : decode cX5_status 95 = .ok (.iload_n 2, 1) := dk_28 (dk_at dksX5_status_4 0 rfl rfl)
theorem dX5_status_96 : decode cX5_status 96 = .ok (.aload_n 0, 1) := dk_42 (dk_at dksX5_status_4 1 rfl rfl)
theorem dX5_status_97 : decode cX5_status 97 = .ok (.getfield 31, 3) := dk_180 0 31 (dk_at dksX5_status_4 2 rfl rfl)
theorem dX5_status_100 : decode cX5_status 100 = .ok (.iload_n 3, 1) := dk_29 (dk_at dksX5_status_4 5 rfl rfl)
theorem dX5_status_101 : decode cX5_status 101 = .ok (.iaload, 1) := dk_46 (dk_at dksX5_status_4 6 rfl rfl)
theorem dX5_status_102 : decode cX5_status 102 = .ok (.iadd, 1) := dk_96 (dk_at dksX5_status_4 7 rfl rfl)
theorem dX5_status_103 : decode cX5_status 103 = .ok (.istore_n 2, 1) := dk_61 (dk_at dksX5_status_4 8 rfl rfl)
theorem dX5_status_104 : decode cX5_status 104 = .ok (.iinc 3 1, 3) := dk_132 3 1 (dk_at dksX5_status_4 9 rfl rfl)
theorem dX5_status_107 : decode cX5_status 107 = .ok (.goto (-23), 3) := dk_167 255 233 (dk_at dksX5_status_4 12 rfl rfl)
theorem dX5_status_110 : decode cX5_status 110 = .ok (.iload_n 2, 1) := dk_28 (dk_at dksX5_status_4 15 rfl rfl)
theorem dX5_status_111 : decode cX5_status 111 = .ok (.ireturn, 1) := dk_172 (dk_at dksX5_status_4 16 rfl rfl)
theorem dX5_status_112 : decode cX5_status 112 = .ok (.aload_n 0, 1) := dk_42 (dk_at dksX5_status_4 17 rfl rfl)
theorem dX5_status_113 : decode cX5_status 113 = .ok (.getfield 304, 3) := dk_180 1 48 (dk_at dksX5_status_4 18 rfl rfl)
theorem dX5_status_116 : decode cX5_status 116 = .ok (.ireturn, 1) := dk_172 (dk_at dksX5_status_4 21 rfl rfl)
theorem dX5_status_117 : decode cX5_status 117 = .ok (.iconst 0, 1) := dk_3 (dk_at dksX5_status_4 22 rfl rfl)
theorem dX5_status_118 : decode cX5_status 118 = .ok (.istore_n 3, 1) := dk_62 (dk_at dksX5_status_4 23 rfl rfl)
theorem dX5_status_119 : decode cX5_status 119 = .ok (.iload_n 3, 1) := dk_29 (dk_at dksX5_status_5 0 rfl rfl)
theorem dX5_status_120 : decode cX5_status 120 = .ok (.aload_n 0, 1) := dk_42 (dk_at dksX5_status_5 1 rfl rfl)
theorem dX5_status_121 : decode cX5_status 121 = .ok (.getfield 89, 3) := dk_180 0 89 (dk_at dksX5_status_5 2 rfl rfl)
theorem dX5_status_124 : decode cX5_status 124 = .ok (.if_icmp .ge 22, 3) := dk_162 0 22 (dk_at dksX5_status_5 5 rfl rfl)
theorem dX5_status_127 : decode cX5_status 127 = .ok (.aload_n 0, 1) := dk_42 (dk_at dksX5_status_5 8 rfl rfl)
theorem dX5_status_128 : decode cX5_status 128 = .ok (.getfield 28, 3) := dk_180 0 28 (dk_at dksX5_status_5 9 rfl rfl)
theorem dX5_status_131 : decode cX5_status 131 = .ok (.iload_n 3, 1) := dk_29 (dk_at dksX5_status_5 12 rfl rfl)
theorem dX5_status_132 : decode cX5_status 132 = .ok (.iaload, 1) := dk_46 (dk_at dksX5_status_5 13 rfl rfl)
theorem dX5_status_133 : decode cX5_status 133 = .ok (.iconst (-1), 1) := dk_2 (dk_at dksX5_status_5 14 rfl rfl)
theorem dX5_status_134 : decode cX5_status 134 = .ok (.if_icmp .eq 6, 3) := dk_159 0 6 (dk_at dksX5_status_5 15 rfl rfl)
theorem dX5_status_137 : decode cX5_status 137 = .ok (.iinc 2 1, 3) := dk_132 2 1 (dk_at dksX5_status_5 18 rfl rfl)
theorem dX5_status_140 : decode cX5_status 140 = .ok (.iinc 3 1, 3) := dk_132 3 1 (dk_at dksX5_status_5 21 rfl rfl)
theorem dX5_status_143 : decode cX5_status 143 = .ok (.goto (-24), 3) := dk_167 255 232 (dk_at dksX5_status_6 0 rfl rfl)
theorem dX5_status_146 : decode cX5_status 146 = .ok (.iload_n 2, 1) := dk_28 (dk_at dksX5_status_6 3 rfl rfl)
theorem dX5_status_147 : decode cX5_status 147 = .ok (.ireturn, 1) := dk_172 (dk_at dksX5_status_6 4 rfl rfl)
theorem dX5_status_148 : decode cX5_status 148 = .ok (.aload_n 0, 1) := dk_42 (dk_at dksX5_status_6 5 rfl rfl)
theorem dX5_status_149 : decode cX5_status 149 = .ok (.getfield 131, 3) := dk_180 0 131 (dk_at dksX5_status_6 6 rfl rfl)
theorem dX5_status_152 : decode cX5_status 152 = .ok (.ireturn, 1) := dk_172 (dk_at dksX5_status_6 9 rfl rfl)
theorem dX5_status_153 : decode cX5_status 153 = .ok (.aload_n 0, 1) := dk_42 (dk_at dksX5_status_6 10 rfl rfl)
theorem dX5_status_154 : decode cX5_status 154 = .ok (.getfield 81, 3) := dk_180 0 81 (dk_at dksX5_status_6 11 rfl rfl)
theorem dX5_status_157 : decode cX5_status 157 = .ok (.ireturn, 1) := dk_172 (dk_at dksX5_status_6 14 rfl rfl)
theorem dX5_status_158 : decode cX5_status 158 = .ok (.iconst 0, 1) := dk_3 (dk_at dksX5_status_6 15 rfl rfl)
theorem dX5_status_159 : decode cX5_status 159 = .ok (.istore_n 3, 1) := dk_62 (dk_at dksX5_status_6 16 rfl rfl)
theorem dX5_status_160 : decode cX5_status 160 = .ok (.iload_n 3, 1) := dk_29 (dk_at dksX5_status_6 17 rfl rfl)
theorem dX5_status_161 : decode cX5_status 161 = .ok (.bipush 8, 2) := dk_16 8 (dk_at dksX5_status_6 18 rfl rfl)
theorem dX5_status_163 : decode cX5_status 163 = .ok (.if_icmp .ge 22, 3) := dk_162 0 22 (dk_at dksX5_status_6 20 rfl rfl)
theorem dX5_status_166 : decode cX5_status 166 = .ok (.aload_n 0, 1) := dk_42 (dk_at dksX5_status_6 23 rfl rfl)
theorem dX5_status_167 : decode cX5_status 167 = .ok (.getfield 37, 3) := dk_180 0 37 (dk_at dksX5_status_7 0 rfl rfl)
theorem dX5_status_170 : decode cX5_status 170 = .ok (.iload_n 3, 1) := dk_29 (dk_at dksX5_status_7 3 rfl rfl)
theorem dX5_status_171 : decode cX5_status 171 = .ok (.iaload, 1) := dk_46 (dk_at dksX5_status_7 4 rfl rfl)
theorem dX5_status_172 : decode cX5_status 172 = .ok (.iconst (-1), 1) := dk_2 (dk_at dksX5_status_7 5 rfl rfl)
theorem dX5_status_173 : decode cX5_status 173 = .ok (.if_icmp .eq 6, 3) := dk_159 0 6 (dk_at dksX5_status_7 6 rfl rfl)
theorem dX5_status_176 : decode cX5_status 176 = .ok (.iinc 2 1, 3) := dk_132 2 1 (dk_at dksX5_status_7 9 rfl rfl)
theorem dX5_status_179 : decode cX5_status 179 = .ok (.iinc 3 1, 3) := dk_132 3 1 (dk_at dksX5_status_7 12 rfl rfl)
theorem dX5_status_182 : decode cX5_status 182 = .ok (.goto (-22), 3) := dk_167 255 234 (dk_at dksX5_status_7 15 rfl rfl)
theorem dX5_status_185 : decode cX5_status 185 = .ok (.iload_n 2, 1) := dk_28 (dk_at dksX5_status_7 18 rfl rfl)
theorem dX5_status_186 : decode cX5_status 186 = .ok (.ireturn, 1) := dk_172 (dk_at dksX5_status_7 19 rfl rfl)
theorem dX5_status_187 : decode cX5_status 187 = .ok (.iload_n 1, 1) := dk_27 (dk_at dksX5_status_7 20 rfl rfl)
theorem dX5_status_188 : decode cX5_status 188 = .ok (.bipush 12, 2) := dk_16 12 (dk_at dksX5_status_7 21 rfl rfl)
theorem dX5_status_190 : decode cX5_status 190 = .ok (.bipush 16, 2) := dk_16 16 (dk_at dksX5_status_8 0 rfl rfl)
theorem dX5_status_192 : decode cX5_status 192 = .ok (.invokestatic 85, 3) := dk_184 0 85 (dk_at dksX5_status_8 2 rfl rfl)
theorem dX5_status_195 : decode cX5_status 195 = .ok (.ifCond .eq 15, 3) := dk_153 0 15 (dk_at dksX5_status_8 5 rfl rfl)
theorem dX5_status_198 : decode cX5_status 198 = .ok (.aload_n 0, 1) := dk_42 (dk_at dksX5_status_8 8 rfl rfl)
theorem dX5_status_199 : decode cX5_status 199 = .ok (.getfield 47, 3) := dk_180 0 47 (dk_at dksX5_status_8 9 rfl rfl)
theorem dX5_status_202 : decode cX5_status 202 = .ok (.iload_n 1, 1) := dk_27 (dk_at dksX5_status_8 12 rfl rfl)
theorem dX5_status_203 : decode cX5_status 203 = .ok (.bipush 10, 2) := dk_16 10 (dk_at dksX5_status_8 13 rfl rfl)
theorem dX5_status_205 : decode cX5_status 205 = .ok (.isub, 1) := dk_100 (dk_at dksX5_status_8 15 rfl rfl)
theorem dX5_status_206 : decode cX5_status 206 = .ok (.iaload, 1) := dk_46 (dk_at dksX5_status_8 16 rfl rfl)
theorem dX5_status_207 : decode cX5_status 207 = .ok (.goto 4, 3) := dk_167 0 4 (dk_at dksX5_status_8 17 rfl rfl)
theorem dX5_status_210 : decode cX5_status 210 = .ok (.iconst (-1), 1) := dk_2 (dk_at dksX5_status_8 20 rfl rfl)
theorem dX5_status_211 : decode cX5_status 211 = .ok (.ireturn, 1) := dk_172 (dk_at dksX5_status_8 21 rfl rfl)
