set_option maxRecDepth 100000
abbrev cX0_all : ByteArray := prog_1_method_61_code
def yX0_all : MethodName := ⟨RX0, "all", "(I)J"⟩
def dkwX0_all_0 : List UInt8 := [10, 64, 3, 62, 29, 26, 162, 0, 15, 31, 20, 1, 65, 105, 64, 132, 3, 1, 167, 255, 242, 31, 173]
abbrev dktX0_all_0 : List UInt8 := dkwX0_all_0 ++ []
theorem dksX0_all_0 : cX0_all.data.toList.drop 0 = dktX0_all_0 := by decide +kernel
theorem dX0_all_0 : decode cX0_all 0 = .ok (.lconst 1, 1) := dk_10 (dk_at dksX0_all_0 0 rfl rfl)
theorem dX0_all_1 : decode cX0_all 1 = .ok (.lstore_n 1, 1) := dk_64 (dk_at dksX0_all_0 1 rfl rfl)
theorem dX0_all_2 : decode cX0_all 2 = .ok (.iconst 0, 1) := dk_3 (dk_at dksX0_all_0 2 rfl rfl)
theorem dX0_all_3 : decode cX0_all 3 = .ok (.istore_n 3, 1) := dk_62 (dk_at dksX0_all_0 3 rfl rfl)
theorem dX0_all_4 : decode cX0_all 4 = .ok (.iload_n 3, 1) := dk_29 (dk_at dksX0_all_0 4 rfl rfl)
theorem dX0_all_5 : decode cX0_all 5 = .ok (.iload_n 0, 1) := dk_26 (dk_at dksX0_all_0 5 rfl rfl)
theorem dX0_all_6 : decode cX0_all 6 = .ok (.if_icmp .ge 15, 3) := dk_162 0 15 (dk_at dksX0_all_0 6 rfl rfl)
theorem dX0_all_9 : decode cX0_all 9 = .ok (.lload_n 1, 1) := dk_31 (dk_at dksX0_all_0 9 rfl rfl)
theorem dX0_all_10 : decode cX0_all 10 = .ok (.ldc2_w 321, 3) := dk_20 1 65 (dk_at dksX0_all_0 10 rfl rfl)
theorem dX0_all_13 : decode cX0_all 13 = .ok (.lmul, 1) := dk_105 (dk_at dksX0_all_0 13 rfl rfl)
theorem dX0_all_14 : decode cX0_all 14 = .ok (.lstore_n 1, 1) := dk_64 (dk_at dksX0_all_0 14 rfl rfl)
theorem dX0_all_15 : decode cX0_all 15 = .ok (.iinc 3 1, 3) := dk_132 3 1 (dk_at dksX0_all_0 15 rfl rfl)
theorem dX0_all_18 : decode cX0_all 18 = .ok (.goto (-14), 3) := dk_167 255 242 (dk_at dksX0_all_0 18 rfl rfl)
theorem dX0_all_21 : decode cX0_all 21 = .ok (.lload_n 1, 1) := dk_31 (dk_at dksX0_all_0 21 rfl rfl)
theorem dX0_all_22 : decode cX0_all 22 = .ok (.lreturn, 1) := dk_173 (dk_at dksX0_all_0 22 rfl rfl)
abbrev cX0_likely : ByteArray := prog_1_method_64_code
def yX0_likely : MethodName := ⟨RX0, "likely", "(I)I"⟩
def dkwX0_likely_4 : List UInt8 := [180, 0, 192, 4, 100, 182, 1, 77, 172]
abbrev dktX0_likely_4 : List UInt8 := dkwX0_likely_4 ++ []
def dkwX0_likely_3 : List UInt8 := [21, 5, 28, 182, 1, 73, 167, 0, 4, 9, 97, 66, 132, 5, 1, 167, 255, 208, 42, 33, 42, 180, 0, 36]
abbrev dktX0_likely_3 : List UInt8 := dkwX0_likely_3 ++ dktX0_likely_4
def dkwX0_likely_2 : List UInt8 := [163, 0, 42, 33, 21, 5, 27, 184, 0, 202, 153, 0, 23, 42, 21, 5, 27, 182, 1, 21, 153, 0, 13, 42]
abbrev dktX0_likely_2 : List UInt8 := dkwX0_likely_2 ++ dktX0_likely_3
def dkwX0_likely_1 : List UInt8 := [182, 0, 80, 4, 27, 120, 2, 130, 126, 61, 9, 66, 3, 54, 5, 21, 5, 42, 180, 0, 36, 182, 0, 80]
abbrev dktX0_likely_1 : List UInt8 := dkwX0_likely_1 ++ dktX0_likely_2
def dkwX0_likely_0 : List UInt8 := [42, 180, 0, 36, 27, 182, 0, 157, 154, 0, 10, 42, 16, 254, 182, 0, 105, 172, 42, 180, 0, 36]
abbrev dktX0_likely_0 : List UInt8 := dkwX0_likely_0 ++ dktX0_likely_1
theorem dksX0_likely_0 : cX0_likely.data.toList.drop 0 = dktX0_likely_0 := by decide +kernel
theorem dksX0_likely_1 : cX0_likely.data.toList.drop 22 = dktX0_likely_1 := dk_seg dksX0_likely_0 22 rfl rfl
theorem dksX0_likely_2 : cX0_likely.data.toList.drop 46 = dktX0_likely_2 := dk_seg dksX0_likely_1 24 rfl rfl
theorem dksX0_likely_3 : cX0_likely.data.toList.drop 70 = dktX0_likely_3 := dk_seg dksX0_likely_2 24 rfl rfl
theorem dksX0_likely_4 : cX0_likely.data.toList.drop 94 = dktX0_likely_4 := dk_seg dksX0_likely_3 24 rfl rfl
theorem dX0_likely_0 : decode cX0_likely 0 = .ok (.aload_n 0, 1) := dk_42 (dk_at dksX0_likely_0 0 rfl rfl)
theorem dX0_likely_1 : decode cX0_likely 1 = .ok (.getfield 36, 3) := dk_180 0 36 (dk_at dksX0_likely_0 1 rfl rfl)
theorem dX0_likely_4 : decode cX0_likely 4 = .ok (.iload_n 1, 1) := dk_27 (dk_at dksX0_likely_0 4 rfl rfl)
theorem dX0_likely_5 : decode cX0_likely 5 = .ok (.invokevirtual 157, 3) := dk_182 0 157 (dk_at dksX0_likely_0 5 rfl rfl)
theorem dX0_likely_8 : decode cX0_likely 8 = .ok (.ifCond .ne 10, 3) := dk_154 0 10 (dk_at dksX0_likely_0 8 rfl rfl)
theorem dX0_likely_11 : decode cX0_likely 11 = .ok (.aload_n 0, 1) := dk_42 (dk_at dksX0_likely_0 11 rfl rfl)
theorem dX0_likely_12 : decode cX0_likely 12 = .ok (.bipush (-2), 2) := dk_16 254 (dk_at dksX0_likely_0 12 rfl rfl)
theorem dX0_likely_14 : decode cX0_likely 14 = .ok (.invokevirtual 105, 3) := dk_182 0 105 (dk_at dksX0_likely_0 14 rfl rfl)
theorem dX0_likely_17 : decode cX0_likely 17 = .ok (.ireturn, 1) := dk_172 (dk_at dksX0_likely_0 17 rfl rfl)
theorem dX0_likely_18 : decode cX0_likely 18 = .ok (.aload_n 0, 1) := dk_42 (dk_at dksX0_likely_0 18 rfl rfl)
theorem dX0_likely_19 : decode cX0_likely 19 = .ok (.getfield 36, 3) := dk_180 0 36 (dk_at dksX0_likely_0 19 rfl rfl)
theorem dX0_likely_22 : decode cX0_likely 22 = .ok (.invokevirtual 80, 3) := dk_182 0 80 (dk_at dksX0_likely_1 0 rfl rfl)
theorem dX0_likely_25 : decode cX0_likely 25 = .ok (.iconst 1, 1) := dk_4 (dk_at dksX0_likely_1 3 rfl rfl)
theorem dX0_likely_26 : decode cX0_likely 26 = .ok (.iload_n 1, 1) := dk_27 (dk_at dksX0_likely_1 4 rfl rfl)
theorem dX0_likely_27 : decode cX0_likely 27 = .ok (.ishl, 1) := dk_120 (dk_at dksX0_likely_1 5 rfl rfl)
theorem dX0_likely_28 : decode cX0_likely 28 = .ok (.iconst (-1), 1) := dk_2 (dk_at dksX0_likely_1 6 rfl rfl)
theorem dX0_likely_29 : decode cX0_likely 29 = .ok (.ixor, 1) := dk_130 (dk_at dksX0_likely_1 7 rfl rfl)
theorem dX0_likely_30 : decode cX0_likely 30 = .ok (.iand, 1) := dk_126 (dk_at dksX0_likely_1 8 rfl rfl)
theorem dX0_likely_31 : decode cX0_likely 31 = .ok (.istore_n 2, 1) := dk_61 (dk_at dksX0_likely_1 9 rfl rfl)
theorem dX0_likely_32 : decode cX0_likely 32 = .ok (.lconst 0, 1) := dk_9 (dk_at dksX0_likely_1 10 rfl rfl)
theorem dX0_likely_33 : decode cX0_likely 33 = .ok (.lstore_n 3, 1) := dk_66 (dk_at dksX0_likely_1 11 rfl rfl)
theorem dX0_likely_34 : decode cX0_likely 34 = .ok (.iconst 0, 1) := dk_3 (dk_at dksX0_likely_1 12 rfl rfl)
theorem dX0_likely_35 : decode cX0_likely 35 = .ok (.istore 5, 2) := dk_54 5 (dk_at dksX0_likely_1 13 rfl rfl)
theorem dX0_likely_37 : decode cX0_likely 37 = .ok (.iload 5, 2) := dk_21 5 (dk_at dksX0_likely_1 15 rfl rfl)
theorem dX0_likely_39 : decode cX0_likely 39 = .ok (.aload_n 0, 1) := dk_42 (dk_at dksX0_likely_1 17 rfl rfl)
theorem dX0_likely_40 : decode cX0_likely 40 = .ok (.getfield 36, 3) := dk_180 0 36 (dk_at dksX0_likely_1 18 rfl rfl)
theorem dX0_likely_43 : decode cX0_likely 43 = .ok (.invokevirtual 80, 3) := dk_182 0 80 (dk_at dksX0_likely_1 21 rfl rfl)
theorem dX0_likely_46 : decode cX0_likely 46 = .ok (.if_icmp .gt 42, 3) := dk_163 0 42 (dk_at dksX0_likely_2 0 rfl rfl)
theorem dX0_likely_49 : decode cX0_likely 49 = .ok (.lload_n 3, 1) := dk_33 (dk_at dksX0_likely_2 3 rfl rfl)
theorem dX0_likely_50 : decode cX0_likely 50 = .ok (.iload 5, 2) := dk_21 5 (dk_at dksX0_likely_2 4 rfl rfl)
theorem dX0_likely_52 : decode cX0_likely 52 = .ok (.iload_n 1, 1) := dk_27 (dk_at dksX0_likely_2 6 rfl rfl)
theorem dX0_likely_53 : decode cX0_likely 53 = .ok (.invokestatic 202, 3) := dk_184 0 202 (dk_at dksX0_likely_2 7 rfl rfl)
theorem dX0_likely_56 : decode cX0_likely 56 = .ok (.ifCond .eq 23, 3) := dk_153 0 23 (dk_at dksX0_likely_2 10 rfl rfl)
theorem dX0_likely_59 : decode cX0_likely 59 = .ok (.aload_n 0, 1) := dk_42 (dk_at dksX0_likely_2 13 rfl rfl)
theorem dX0_likely_60 : decode cX0_likely 60 = .ok (.iload 5, 2) := dk_21 5 (dk_at dksX0_likely_2 14 rfl rfl)
theorem dX0_likely_62 : decode cX0_likely 62 = .ok (.iload_n 1, 1) := dk_27 (dk_at dksX0_likely_2 16 rfl rfl)
theorem dX0_likely_63 : decode cX0_likely 63 = .ok (.invokevirtual 277, 3) := dk_182 1 21 (dk_at dksX0_likely_2 17 rfl rfl)
theorem dX0_likely_66 : decode cX0_likely 66 = .ok (.ifCond .eq 13, 3) := dk_153 0 13 (dk_at dksX0_likely_2 20 rfl rfl)
theorem dX0_likely_69 : decode cX0_likely 69 = .ok (.aload_n 0, 1) := dk_42 (dk_at dksX0_likely_2 23 rfl rfl)
theorem dX0_likely_70 : decode cX0_likely 70 = .ok (.iload 5, 2) := dk_21 5 (dk_at dksX0_likely_3 0 rfl rfl)
theorem dX0_likely_72 : decode cX0_likely 72 = .ok (.iload_n 2, 1) := dk_28 (dk_at dksX0_likely_3 2 rfl rfl)
theorem dX0_likely_73 : decode cX0_likely 73 = .ok (.invokevirtual 329, 3) := dk_182 1 73 (dk_at dksX0_likely_3 3 rfl rfl)
theorem dX0_likely_76 : decode cX0_likely 76 = .ok (.goto 4, 3) := dk_167 0 4 (dk_at dksX0_likely_3 6 rfl rfl)
theorem dX0_likely_79 : decode cX0_likely 79 = .ok (.lconst 0, 1) := dk_9 (dk_at dksX0_likely_3 9 rfl rfl)
theorem dX0_likely_80 : decode cX0_likely 80 = .ok (.ladd, 1) := dk_97 (dk_at dksX0_likely_3 10 rfl rfl)
theorem dX0_likely_81 : decode cX0_likely 81 = .ok (.lstore_n 3, 1) := dk_66 (dk_at dksX0_likely_3 11 rfl rfl)
theorem dX0_likely_82 : decode cX0_likely 82 = .ok (.iinc 5 1, 3) := dk_132 5 1 (dk_at dksX0_likely_3 12 rfl rfl)
theorem dX0_likely_85 : decode cX0_likely 85 = .ok (.goto (-48), 3) := dk_167 255 208 (dk_at dksX0_likely_3 15 rfl rfl)
theorem dX0_likely_88 : decode cX0_likely 88 = .ok (.aload_n 0, 1) := dk_42 (dk_at dksX0_likely_3 18 rfl rfl)
theorem dX0_likely_89 : decode cX0_likely 89 = .ok (.lload_n 3, 1) := dk_33 (dk_at dksX0_likely_3 19 rfl rfl)
theorem dX0_likely_90 : decode cX0_likely 90 = .ok (.aload_n 0, 1) := dk_42 (dk_at dksX0_likely_3 20 rfl rfl)
theorem dX0_likely_91 : decode cX0_likely 91 = .ok (.getfield 36, 3) := dk_180 0 36 (dk_at dksX0_likely_3 21 rfl rfl)
theorem dX0_likely_94 : decode cX0_likely 94 = .ok (.getfield 192, 3) := dk_180 0 192 (dk_at dksX0_likely_4 0 rfl rfl)
theorem dX0_likely_97 : decode cX0_likely 97 = .ok (.iconst 1, 1) := dk_4 (dk_at dksX0_likely_4 3 rfl rfl)
theorem dX0_likely_98 : decode cX0_likely 98 = .ok (.isub, 1) := dk_100 (dk_at dksX0_likely_4 4 rfl rfl)
theorem dX0_likely_99 : decode cX0_likely 99 = .ok (.invokevirtual 333, 3) := dk_182 1 77 (dk_at dksX0_likely_4 5 rfl rfl)
theorem dX0_likely_102 : decode cX0_likely 102 = .ok (.ireturn, 1) := dk_172 (dk_at dksX0_likely_4 8 rfl rfl)
abbrev cX0_gladOdds : ByteArray := prog_1_method_65_code
def yX0_gladOdds : MethodName := ⟨RX0, "gladOdds", "(I)I"⟩
def dkwX0_gladOdds_3 : List UInt8 := [97, 65, 132, 4, 1, 167, 255, 201, 42, 32, 42, 180, 0, 36, 180, 0, 192, 182, 1, 77, 172]
abbrev dktX0_gladOdds_3 : List UInt8 := dkwX0_gladOdds_3 ++ []
def dkwX0_gladOdds_2 : List UInt8 := [182, 0, 253, 27, 161, 0, 19, 42, 21, 4, 42, 180, 0, 36, 182, 0, 80, 182, 1, 73, 167, 0, 4, 9]
abbrev dktX0_gladOdds_2 : List UInt8 := dkwX0_gladOdds_2 ++ dktX0_gladOdds_3
def dkwX0_gladOdds_1 : List UInt8 := [42, 180, 0, 36, 182, 0, 80, 163, 0, 49, 32, 42, 180, 0, 53, 42, 180, 0, 36, 21, 4, 182, 0, 164]
abbrev dktX0_gladOdds_1 : List UInt8 := dkwX0_gladOdds_1 ++ dktX0_gladOdds_2
def dkwX0_gladOdds_0 : List UInt8 := [27, 3, 16, 8, 184, 0, 3, 154, 0, 10, 42, 16, 254, 182, 0, 105, 172, 9, 65, 3, 54, 4, 21, 4]
abbrev dktX0_gladOdds_0 : List UInt8 := dkwX0_gladOdds_0 ++ dktX0_gladOdds_1
theorem dksX0_gladOdds_0 : cX0_gladOdds.data.toList.drop 0 = dktX0_gladOdds_0 := by decide +kernel
theorem dksX0_gladOdds_1 : cX0_gladOdds.data.toList.drop 24 = dktX0_gladOdds_1 := dk_seg dksX0_gladOdds_0 24 rfl rfl
theorem dksX0_gladOdds_2 : cX0_gladOdds.data.toList.drop 48 = dktX0_gladOdds_2 := dk_seg dksX0_gladOdds_1 24 rfl rfl
theorem dksX0_gladOdds_3 : cX0_gladOdds.data.toList.drop 72 = dktX0_gladOdds_3 := dk_seg dksX0_gladOdds_2 24 rfl rfl
theorem dX0_gladOdds_0 : decode cX0_gladOdds 0 = .ok (.iload_n 1, 1) := dk_27 (dk_at dksX0_gladOdds_0 0 rfl rfl)
theorem dX0_gladOdds_1 : decode cX0_gladOdds 1 = .ok (.iconst 0, 1) := dk_3 (dk_at dksX0_gladOdds_0 1 rfl rfl)
theorem dX0_gladOdds_2 : decode cX0_gladOdds 2 = .ok (.bipush 8, 2) := dk_16 8 (dk_at dksX0_gladOdds_0 2 rfl rfl)
theorem dX0_gladOdds_4 : decode cX0_gladOdds 4 = .ok (.invokestatic 3, 3) := dk_184 0 3 (dk_at dksX0_gladOdds_0 4 rfl rfl)
theorem dX0_gladOdds_7 : decode cX0_gladOdds 7 = .ok (.ifCond .ne 10, 3) := dk_154 0 10 (dk_at dksX0_gladOdds_0 7 rfl rfl)
theorem dX0_gladOdds_10 : decode cX0_gladOdds 10 = .ok (.aload_n 0, 1) := dk_42 (dk_at dksX0_gladOdds_0 10 rfl rfl)
theorem dX0_gladOdds_11 : decode cX0_gladOdds 11 = .ok (.bipush (-2), 2) := dk_16 254 (dk_at dksX0_gladOdds_0 11 rfl rfl)
theorem dX0_gladOdds_13 : decode cX0_gladOdds 13 = .ok (.invokevirtual 105, 3) := dk_182 0 105 (dk_at dksX0_gladOdds_0 13 rfl rfl)
theorem dX0_gladOdds_16 : decode cX0_gladOdds 16 = .ok (.ireturn, 1) := dk_172 (dk_at dksX0_gladOdds_0 16 rfl rfl)
theorem dX0_gladOdds_17 : decode cX0_gladOdds 17 = .ok (.lconst 0, 1) := dk_9 (dk_at dksX0_gladOdds_0 17 rfl rfl)
theorem dX0_gladOdds_18 : decode cX0_gladOdds 18 = .ok (.lstore_n 2, 1) := dk_65 (dk_at dksX0_gladOdds_0 18 rfl rfl)
theorem dX0_gladOdds_19 : decode cX0_gladOdds 19 = .ok (.iconst 0, 1) := dk_3 (dk_at dksX0_gladOdds_0 19 rfl rfl)
theorem dX0_gladOdds_20 : decode cX0_gladOdds 20 = .ok (.istore 4, 2) := dk_54 4 (dk_at dksX0_gladOdds_0 20 rfl rfl)
theorem dX0_gladOdds_22 : decode cX0_gladOdds 22 = .ok (.iload 4, 2) := dk_21 4 (dk_at dksX0_gladOdds_0 22 rfl rfl)
theorem dX0_gladOdds_24 : decode cX0_gladOdds 24 = .ok (.aload_n 0, 1) := dk_42 (dk_at dksX0_gladOdds_1 0 rfl rfl)
theorem dX0_gladOdds_25 : decode cX0_gladOdds 25 = .ok (.getfield 36, 3) := dk_180 0 36 (dk_at dksX0_gladOdds_1 1 rfl rfl)
theorem dX0_gladOdds_28 : decode cX0_gladOdds 28 = .ok (.invokevirtual 80, 3) := dk_182 0 80 (dk_at dksX0_gladOdds_1 4 rfl rfl)
theorem dX0_gladOdds_31 : decode cX0_gladOdds 31 = .ok (.if_icmp .gt 49, 3) := dk_163 0 49 (dk_at dksX0_gladOdds_1 7 rfl rfl)
theorem dX0_gladOdds_34 : decode cX0_gladOdds 34 = .ok (.lload_n 2, 1) := dk_32 (dk_at dksX0_gladOdds_1 10 rfl rfl)
theorem dX0_gladOdds_35 : decode cX0_gladOdds 35 = .ok (.aload_n 0, 1) := dk_42 (dk_at dksX0_gladOdds_1 11 rfl rfl)
theorem dX0_gladOdds_36 : decode cX0_gladOdds 36 = .ok (.getfield 53, 3) := dk_180 0 53 (dk_at dksX0_gladOdds_1 12 rfl rfl)
theorem dX0_gladOdds_39 : decode cX0_gladOdds 39 = .ok (.aload_n 0, 1) := dk_42 (dk_at dksX0_gladOdds_1 15 rfl rfl)
theorem dX0_gladOdds_40 : decode cX0_gladOdds 40 = .ok (.getfield 36, 3) := dk_180 0 36 (dk_at dksX0_gladOdds_1 16 rfl rfl)
theorem dX0_gladOdds_43 : decode cX0_gladOdds 43 = .ok (.iload 4, 2) := dk_21 4 (dk_at dksX0_gladOdds_1 19 rfl rfl)
theorem dX0_gladOdds_45 : decode cX0_gladOdds 45 = .ok (.invokevirtual 164, 3) := dk_182 0 164 (dk_at dksX0_gladOdds_1 21 rfl rfl)
theorem dX0_gladOdds_48 : decode cX0_gladOdds 48 = .ok (.invokevirtual 253, 3) := dk_182 0 253 (dk_at dksX0_gladOdds_2 0 rfl rfl)
theorem dX0_gladOdds_51 : decode cX0_gladOdds 51 = .ok (.iload_n 1, 1) := dk_27 (dk_at dksX0_gladOdds_2 3 rfl rfl)
theorem dX0_gladOdds_52 : decode cX0_gladOdds 52 = .ok (.if_icmp .lt 19, 3) := dk_161 0 19 (dk_at dksX0_gladOdds_2 4 rfl rfl)
theorem dX0_gladOdds_55 : decode cX0_gladOdds 55 = .ok (.aload_n 0, 1) := dk_42 (dk_at dksX0_gladOdds_2 7 rfl rfl)
theorem dX0_gladOdds_56 : decode cX0_gladOdds 56 = .ok (.iload 4, 2) := dk_21 4 (dk_at dksX0_gladOdds_2 8 rfl rfl)
theorem dX0_gladOdds_58 : decode cX0_gladOdds 58 = .ok (.aload_n 0, 1) := dk_42 (dk_at dksX0_gladOdds_2 10 rfl rfl)
theorem dX0_gladOdds_59 : decode cX0_gladOdds 59 = .ok (.getfield 36, 3) := dk_180 0 36 (dk_at dksX0_gladOdds_2 11 rfl rfl)
theorem dX0_gladOdds_62 : decode cX0_gladOdds 62 = .ok (.invokevirtual 80, 3) := dk_182 0 80 (dk_at dksX0_gladOdds_2 14 rfl rfl)
theorem dX0_gladOdds_65 : decode cX0_gladOdds 65 = .ok (.invokevirtual 329, 3) := dk_182 1 73 (dk_at dksX0_gladOdds_2 17 rfl rfl)
theorem dX0_gladOdds_68 : decode cX0_gladOdds 68 = .ok (.goto 4, 3) := dk_167 0 4 (dk_at dksX0_gladOdds_2 20 rfl rfl)
theorem dX0_gladOdds_71 : decode cX0_gladOdds 71 = .ok (.lconst 0, 1) := dk_9 (dk_at dksX0_gladOdds_2 23 rfl rfl)
theorem dX0_gladOdds_72 : decode cX0_gladOdds 72 = .ok (.ladd, 1) := dk_97 (dk_at dksX0_gladOdds_3 0 rfl rfl)
theorem dX0_gladOdds_73 : decode cX0_gladOdds 73 = .ok (.lstore_n 2, 1) := dk_65 (dk_at dksX0_gladOdds_3 1 rfl rfl)
theorem dX0_gladOdds_74 : decode cX0_gladOdds 74 = .ok (.iinc 4 1, 3) := dk_132 4 1 (dk_at dksX0_gladOdds_3 2 rfl rfl)
theorem dX0_gladOdds_77 : decode cX0_gladOdds 77 = .ok (.goto (-55), 3) := dk_167 255 201 (dk_at dksX0_gladOdds_3 5 rfl rfl)
theorem dX0_gladOdds_80 : decode cX0_gladOdds 80 = .ok (.aload_n 0, 1) := dk_42 (dk_at dksX0_gladOdds_3 8 rfl rfl)
theorem dX0_gladOdds_81 : decode cX0_gladOdds 81 = .ok (.lload_n 2, 1) := dk_32 (dk_at dksX0_gladOdds_3 9 rfl rfl)
theorem dX0_gladOdds_82 : decode cX0_gladOdds 82 = .ok (.aload_n 0, 1) := dk_42 (dk_at dksX0_gladOdds_3 10 rfl rfl)
theorem dX0_gladOdds_83 : decode cX0_gladOdds 83 = .ok (.getfield 36, 3) := dk_180 0 36 (dk_at dksX0_gladOdds_3 11 rfl rfl)
theorem dX0_gladOdds_86 : decode cX0_gladOdds 86 = .ok (.getfield 192, 3) := dk_180 0 192 (dk_at dksX0_gladOdds_3 14 rfl rfl)
theorem dX0_gladOdds_89 : decode cX0_gladOdds 89 = .ok (.invokevirtual 333, 3) := dk_182 1 77 (dk_at dksX0_gladOdds_3 17 rfl rfl)
theorem dX0_gladOdds_92 : decode cX0_gladOdds 92 = .ok (.ireturn, 1) := dk_172 (dk_at dksX0_gladOdds_3 20 rfl rfl)
abbrev cX0_meanLeft : ByteArray := prog_1_method_66_code
def yX0_meanLeft : MethodName := ⟨RX0, "meanLeft", "()I"⟩
def dkwX0_meanLeft_3 : List UInt8 := [136, 172]
abbrev dktX0_meanLeft_3 : List UInt8 := dkwX0_meanLeft_3 ++ []
def dkwX0_meanLeft_2 : List UInt8 := [97, 64, 132, 3, 1, 167, 255, 207, 20, 1, 81, 31, 105, 42, 180, 0, 36, 180, 0, 192, 184, 1, 69, 109]
abbrev dktX0_meanLeft_2 : List UInt8 := dkwX0_meanLeft_2 ++ dktX0_meanLeft_3
def dkwX0_meanLeft_1 : List UInt8 := [29, 182, 0, 164, 182, 0, 250, 184, 1, 3, 133, 42, 29, 42, 180, 0, 36, 182, 0, 80, 182, 1, 73, 105]
abbrev dktX0_meanLeft_1 : List UInt8 := dkwX0_meanLeft_1 ++ dktX0_meanLeft_2
def dkwX0_meanLeft_0 : List UInt8 := [9, 64, 3, 62, 29, 42, 180, 0, 36, 182, 0, 80, 163, 0, 44, 31, 42, 180, 0, 53, 42, 180, 0, 36]
abbrev dktX0_meanLeft_0 : List UInt8 := dkwX0_meanLeft_0 ++ dktX0_meanLeft_1
theorem dksX0_meanLeft_0 : cX0_meanLeft.data.toList.drop 0 = dktX0_meanLeft_0 := by decide +kernel
theorem dksX0_meanLeft_1 : cX0_meanLeft.data.toList.drop 24 = dktX0_meanLeft_1 := dk_seg dksX0_meanLeft_0 24 rfl rfl
theorem dksX0_meanLeft_2 : cX0_meanLeft.data.toList.drop 48 = dktX0_meanLeft_2 := dk_seg dksX0_meanLeft_1 24 rfl rfl
theorem dksX0_meanLeft_3 : cX0_meanLeft.data.toList.drop 72 = dktX0_meanLeft_3 := dk_seg dksX0_meanLeft_2 24 rfl rfl
theorem dX0_meanLeft_0 : decode cX0_meanLeft 0 = .ok (.lconst 0, 1) := dk_9 (dk_at dksX0_meanLeft_0 0 rfl rfl)
theorem dX0_meanLeft_1 : decode cX0_meanLeft 1 = .ok (.lstore_n 1, 1) := dk_64 (dk_at dksX0_meanLeft_0 1 rfl rfl)
theorem dX0_meanLeft_2 : decode cX0_meanLeft 2 = .ok (.iconst 0, 1) := dk_3 (dk_at dksX0_meanLeft_0 2 rfl rfl)
theorem dX0_meanLeft_3 : decode cX0_meanLeft 3 = .ok (.istore_n 3, 1) := dk_62 (dk_at dksX0_meanLeft_0 3 rfl rfl)
theorem dX0_meanLeft_4 : decode cX0_meanLeft 4 = .ok (.iload_n 3, 1) := dk_29 (dk_at dksX0_meanLeft_0 4 rfl rfl)
theorem dX0_meanLeft_5 : decode cX0_meanLeft 5 = .ok (.aload_n 0, 1) := dk_42 (dk_at dksX0_meanLeft_0 5 rfl rfl)
theorem dX0_meanLeft_6 : decode cX0_meanLeft 6 = .ok (.getfield 36, 3) := dk_180 0 36 (dk_at dksX0_meanLeft_0 6 rfl rfl)
theorem dX0_meanLeft_9 : decode cX0_meanLeft 9 = .ok (.invokevirtual 80, 3) := dk_182 0 80 (dk_at dksX0_meanLeft_0 9 rfl rfl)
theorem dX0_meanLeft_12 : decode cX0_meanLeft 12 = .ok (.if_icmp .gt 44, 3) := dk_163 0 44 (dk_at dksX0_meanLeft_0 12 rfl rfl)
theorem dX0_meanLeft_15 : decode cX0_meanLeft 15 = .ok (.lload_n 1, 1) := dk_31 (dk_at dksX0_meanLeft_0 15 rfl rfl)
theorem dX0_meanLeft_16 : decode cX0_meanLeft 16 = .ok (.aload_n 0, 1) := dk_42 (dk_at dksX0_meanLeft_0 16 rfl rfl)
theorem dX0_meanLeft_17 : decode cX0_meanLeft 17 = .ok (.getfield 53, 3) := dk_180 0 53 (dk_at dksX0_meanLeft_0 17 rfl rfl)
theorem dX0_meanLeft_20 : decode cX0_meanLeft 20 = .ok (.aload_n 0, 1) := dk_42 (dk_at dksX0_meanLeft_0 20 rfl rfl)
theorem dX0_meanLeft_21 : decode cX0_meanLeft 21 = .ok (.getfield 36, 3) := dk_180 0 36 (dk_at dksX0_meanLeft_0 21 rfl rfl)
theorem dX0_meanLeft_24 : decode cX0_meanLeft 24 = .ok (.iload_n 3, 1) := dk_29 (dk_at dksX0_meanLeft_1 0 rfl rfl)
theorem dX0_meanLeft_25 : decode cX0_meanLeft 25 = .ok (.invokevirtual 164, 3) := dk_182 0 164 (dk_at dksX0_meanLeft_1 1 rfl rfl)
theorem dX0_meanLeft_28 : decode cX0_meanLeft 28 = .ok (.invokevirtual 250, 3) := dk_182 0 250 (dk_at dksX0_meanLeft_1 4 rfl rfl)
theorem dX0_meanLeft_31 : decode cX0_meanLeft 31 = .ok (.invokestatic 259, 3) := dk_184 1 3 (dk_at dksX0_meanLeft_1 7 rfl rfl)
theorem dX0_meanLeft_34 : decode cX0_meanLeft 34 = .ok (.i2l, 1) := dk_133 (dk_at dksX0_meanLeft_1 10 rfl rfl)
theorem dX0_meanLeft_35 : decode cX0_meanLeft 35 = .ok (.aload_n 0, 1) := dk_42 (dk_at dksX0_meanLeft_1 11 rfl rfl)
theorem dX0_meanLeft_36 : decode cX0_meanLeft 36 = .ok (.iload_n 3, 1) := dk_29 (dk_at dksX0_meanLeft_1 12 rfl rfl)
theorem dX0_meanLeft_37 : decode cX0_meanLeft 37 = .ok (.aload_n 0, 1) := dk_42 (dk_at dksX0_meanLeft_1 13 rfl rfl)
theorem dX0_meanLeft_38 : decode cX0_meanLeft 38 = .ok (.getfield 36, 3) := dk_180 0 36 (dk_at dksX0_meanLeft_1 14 rfl rfl)
theorem dX0_meanLeft_41 : decode cX0_meanLeft 41 = .ok (.invokevirtual 80, 3) := dk_182 0 80 (dk_at dksX0_meanLeft_1 17 rfl rfl)
theorem dX0_meanLeft_44 : decode cX0_meanLeft 44 = .ok (.invokevirtual 329, 3) := dk_182 1 73 (dk_at dksX0_meanLeft_1 20 rfl rfl)
theorem dX0_meanLeft_47 : decode cX0_meanLeft 47 = .ok (.lmul, 1) := dk_105 (dk_at dksX0_meanLeft_1 23 rfl rfl)
theorem dX0_meanLeft_48 : decode cX0_meanLeft 48 = .ok (.ladd, 1) := dk_97 (dk_at dksX0_meanLeft_2 0 rfl rfl)
theorem dX0_meanLeft_49 : decode cX0_meanLeft 49 = .ok (.lstore_n 1, 1) := dk_64 (dk_at dksX0_meanLeft_2 1 rfl rfl)
theorem dX0_meanLeft_50 : decode cX0_meanLeft 50 = .ok (.iinc 3 1, 3) := dk_132 3 1 (dk_at dksX0_meanLeft_2 2 rfl rfl)
theorem dX0_meanLeft_53 : decode cX0_meanLeft 53 = .ok (.goto (-49), 3) := dk_167 255 207 (dk_at dksX0_meanLeft_2 5 rfl rfl)
theorem dX0_meanLeft_56 : decode cX0_meanLeft 56 = .ok (.ldc2_w 337, 3) := dk_20 1 81 (dk_at dksX0_meanLeft_2 8 rfl rfl)
theorem dX0_meanLeft_59 : decode cX0_meanLeft 59 = .ok (.lload_n 1, 1) := dk_31 (dk_at dksX0_meanLeft_2 11 rfl rfl)
theorem dX0_meanLeft_60 : decode cX0_meanLeft 60 = .ok (.lmul, 1) := dk_105 (dk_at dksX0_meanLeft_2 12 rfl rfl)
theorem dX0_meanLeft_61 : decode cX0_meanLeft 61 = .ok (.aload_n 0, 1) := dk_42 (dk_at dksX0_meanLeft_2 13 rfl rfl)
theorem dX0_meanLeft_62 : decode cX0_meanLeft 62 = .ok (.getfield 36, 3) := dk_180 0 36 (dk_at dksX0_meanLeft_2 14 rfl rfl)
theorem dX0_meanLeft_65 : decode cX0_meanLeft 65 = .ok (.getfield 192, 3) := dk_180 0 192 (dk_at dksX0_meanLeft_2 17 rfl rfl)
theorem dX0_meanLeft_68 : decode cX0_meanLeft 68 = .ok (.invokestatic 325, 3) := dk_184 1 69 (dk_at dksX0_meanLeft_2 20 rfl rfl)
theorem dX0_meanLeft_71 : decode cX0_meanLeft 71 = .ok (.ldiv, 1) := dk_109 (dk_at dksX0_meanLeft_2 23 rfl rfl)
theorem dX0_meanLeft_72 : decode cX0_meanLeft 72 = .ok (.l2i, 1) := dk_136 (dk_at dksX0_meanLeft_3 0 rfl rfl)
theorem dX0_meanLeft_73 : decode cX0_meanLeft 73 = .ok (.ireturn, 1) := dk_172 (dk_at dksX0_meanLeft_3 1 rfl rfl)
abbrev cX0_sorts : ByteArray := prog_1_method_67_code
def yX0_sorts : MethodName := ⟨RX0, "sorts", "(II)I"⟩
def dkwX0_sorts_5 : List UInt8 := [167, 255, 183, 29, 172]
abbrev dktX0_sorts_5 : List UInt8 := dkwX0_sorts_5 ++ []
def dkwX0_sorts_4 : List UInt8 := [167, 0, 4, 3, 54, 5, 29, 21, 5, 153, 0, 7, 4, 167, 0, 4, 3, 96, 62, 132, 4, 1]
abbrev dktX0_sorts_4 : List UInt8 := dkwX0_sorts_4 ++ dktX0_sorts_5
def dkwX0_sorts_3 : List UInt8 := [184, 0, 202, 167, 0, 25, 42, 180, 0, 36, 180, 0, 160, 21, 4, 50, 180, 0, 241, 27, 160, 0, 7, 4]
abbrev dktX0_sorts_3 : List UInt8 := dkwX0_sorts_3 ++ dktX0_sorts_4
def dkwX0_sorts_2 : List UInt8 := [180, 0, 36, 180, 0, 192, 162, 0, 67, 28, 4, 160, 0, 19, 42, 180, 0, 36, 21, 4, 182, 1, 83, 27]
abbrev dktX0_sorts_2 : List UInt8 := dkwX0_sorts_2 ++ dktX0_sorts_3
def dkwX0_sorts_1 : List UInt8 := [154, 0, 15, 42, 180, 0, 36, 180, 0, 186, 27, 182, 1, 42, 172, 3, 62, 3, 54, 4, 21, 4, 42]
abbrev dktX0_sorts_1 : List UInt8 := dkwX0_sorts_1 ++ dktX0_sorts_2
def dkwX0_sorts_0 : List UInt8 := [27, 184, 0, 183, 153, 0, 12, 28, 3, 5, 184, 0, 3, 154, 0, 10, 42, 16, 254, 182, 0, 105, 172, 28]
abbrev dktX0_sorts_0 : List UInt8 := dkwX0_sorts_0 ++ dktX0_sorts_1
theorem dksX0_sorts_0 : cX0_sorts.data.toList.drop 0 = dktX0_sorts_0 := by decide +kernel
theorem dksX0_sorts_1 : cX0_sorts.data.toList.drop 24 = dktX0_sorts_1 := dk_seg dksX0_sorts_0 24 rfl rfl
theorem dksX0_sorts_2 : cX0_sorts.data.toList.drop 47 = dktX0_sorts_2 := dk_seg dksX0_sorts_1 23 rfl rfl
theorem dksX0_sorts_3 : cX0_sorts.data.toList.drop 71 = dktX0_sorts_3 := dk_seg dksX0_sorts_2 24 rfl rfl
theorem dksX0_sorts_4 : cX0_sorts.data.toList.drop 95 = dktX0_sorts_4 := dk_seg dksX0_sorts_3 24 rfl rfl
theorem dksX0_sorts_5 : cX0_sorts.data.toList.drop 117 = dktX0_sorts_5 := dk_seg dksX0_sorts_4 22 rfl rfl
theorem dX0_sorts_0 : decode cX0_sorts 0 = .ok (.iload_n 1, 1) := dk_27 (dk_at dksX0_sorts_0 0 rfl rfl)
theorem dX0_sorts_1 : decode cX0_sorts 1 = .ok (.invokestatic 183, 3) := dk_184 0 183 (dk_at dksX0_sorts_0 1 rfl rfl)
theorem dX0_sorts_4 : decode cX0_sorts 4 = .ok (.ifCond .eq 12, 3) := dk_153 0 12 (dk_at dksX0_sorts_0 4 rfl rfl)
theorem dX0_sorts_7 : decode cX0_sorts 7 = .ok (.iload_n 2, 1) := dk_28 (dk_at dksX0_sorts_0 7 rfl rfl)
theorem dX0_sorts_8 : decode cX0_sorts 8 = .ok (.iconst 0, 1) := dk_3 (dk_at dksX0_sorts_0 8 rfl rfl)
theorem dX0_sorts_9 : decode cX0_sorts 9 = .ok (.iconst 2, 1) := dk_5 (dk_at dksX0_sorts_0 9 rfl rfl)
theorem dX0_sorts_10 : decode cX0_sorts 10 = .ok (.invokestatic 3, 3) := dk_184 0 3 (dk_at dksX0_sorts_0 10 rfl rfl)
theorem dX0_sorts_13 : decode cX0_sorts 13 = .ok (.ifCond .ne 10, 3) := dk_154 0 10 (dk_at dksX0_sorts_0 13 rfl rfl)
theorem dX0_sorts_16 : decode cX0_sorts 16 = .ok (.aload_n 0, 1) := dk_42 (dk_at dksX0_sorts_0 16 rfl rfl)
theorem dX0_sorts_17 : decode cX0_sorts 17 = .ok (.bipush (-2), 2) := dk_16 254 (dk_at dksX0_sorts_0 17 rfl rfl)
theorem dX0_sorts_19 : decode cX0_sorts 19 = .ok (.invokevirtual 105, 3) := dk_182 0 105 (dk_at dksX0_sorts_0 19 rfl rfl)
theorem dX0_sorts_22 : decode cX0_sorts 22 = .ok (.ireturn, 1) := dk_172 (dk_at dksX0_sorts_0 22 rfl rfl)
theorem dX0_sorts_23 : decode cX0_sorts 23 = .ok (.iload_n 2, 1) := dk_28 (dk_at dksX0_sorts_0 23 rfl rfl)
theorem dX0_sorts_24 : decode cX0_sorts 24 = .ok (.ifCond .ne 15, 3) := dk_154 0 15 (dk_at dksX0_sorts_1 0 rfl rfl)
theorem dX0_sorts_27 : decode cX0_sorts 27 = .ok (.aload_n 0, 1) := dk_42 (dk_at dksX0_sorts_1 3 rfl rfl)
theorem dX0_sorts_28 : decode cX0_sorts 28 = .ok (.getfield 36, 3) := dk_180 0 36 (dk_at dksX0_sorts_1 4 rfl rfl)
theorem dX0_sorts_31 : decode cX0_sorts 31 = .ok (.getfield 186, 3) := dk_180 0 186 (dk_at dksX0_sorts_1 7 rfl rfl)
theorem dX0_sorts_34 : decode cX0_sorts 34 = .ok (.iload_n 1, 1) := dk_27 (dk_at dksX0_sorts_1 10 rfl rfl)
theorem dX0_sorts_35 : decode cX0_sorts 35 = .ok (.invokevirtual 298, 3) := dk_182 1 42 (dk_at dksX0_sorts_1 11 rfl rfl)
theorem dX0_sorts_38 : decode cX0_sorts 38 = .ok (.ireturn, 1) := dk_172 (dk_at dksX0_sorts_1 14 rfl rfl)
theorem dX0_sorts_39 : decode cX0_sorts 39 = .ok (.iconst 0, 1) := dk_3 (dk_at dksX0_sorts_1 15 rfl rfl)
theorem dX0_sorts_40 : decode cX0_sorts 40 = .ok (.istore_n 3, 1) := dk_62 (dk_at dksX0_sorts_1 16 rfl rfl)
theorem dX0_sorts_41 : decode cX0_sorts 41 = .ok (.iconst 0, 1) := dk_3 (dk_at dksX0_sorts_1 17 rfl rfl)
theorem dX0_sorts_42 : decode cX0_sorts 42 = .ok (.istore 4, 2) := dk_54 4 (dk_at dksX0_sorts_1 18 rfl rfl)
theorem dX0_sorts_44 : decode cX0_sorts 44 = .ok (.iload 4, 2) := dk_21 4 (dk_at dksX0_sorts_1 20 rfl rfl)
theorem dX0_sorts_46 : decode cX0_sorts 46 = .ok (.aload_n 0, 1) := dk_42 (dk_at dksX0_sorts_1 22 rfl rfl)
theorem dX0_sorts_47 : decode cX0_sorts 47 = .ok (.getfield 36, 3) := dk_180 0 36 (dk_at dksX0_sorts_2 0 rfl rfl)
theorem dX0_sorts_50 : decode cX0_sorts 50 = .ok (.getfield 192, 3) := dk_180 0 192 (dk_at dksX0_sorts_2 3 rfl rfl)
theorem dX0_sorts_53 : decode cX0_sorts 53 = .ok (.if_icmp .ge 67, 3) := dk_162 0 67 (dk_at dksX0_sorts_2 6 rfl rfl)
theorem dX0_sorts_56 : decode cX0_sorts 56 = .ok (.iload_n 2, 1) := dk_28 (dk_at dksX0_sorts_2 9 rfl rfl)
theorem dX0_sorts_57 : decode cX0_sorts 57 = .ok (.iconst 1, 1) := dk_4 (dk_at dksX0_sorts_2 10 rfl rfl)
theorem dX0_sorts_58 : decode cX0_sorts 58 = .ok (.if_icmp .ne 19, 3) := dk_160 0 19 (dk_at dksX0_sorts_2 11 rfl rfl)
theorem dX0_sorts_61 : decode cX0_sorts 61 = .ok (.aload_n 0, 1) := dk_42 (dk_at dksX0_sorts_2 14 rfl rfl)
theorem dX0_sorts_62 : decode cX0_sorts 62 = .ok (.getfield 36, 3) := dk_180 0 36 (dk_at dksX0_sorts_2 15 rfl rfl)
theorem dX0_sorts_65 : decode cX0_sorts 65 = .ok (.iload 4, 2) := dk_21 4 (dk_at dksX0_sorts_2 18 rfl rfl)
theorem dX0_sorts_67 : decode cX0_sorts 67 = .ok (.invokevirtual 339, 3) := dk_182 1 83 (dk_at dksX0_sorts_2 20 rfl rfl)
theorem dX0_sorts_70 : decode cX0_sorts 70 = .ok (.iload_n 1, 1) := dk_27 (dk_at dksX0_sorts_2 23 rfl rfl)
theorem dX0_sorts_71 : decode cX0_sorts 71 = .ok (.invokestatic 202, 3) := dk_184 0 202 (dk_at dksX0_sorts_3 0 rfl rfl)
theorem dX0_sorts_74 : decode cX0_sorts 74 = .ok (.goto 25, 3) := dk_167 0 25 (dk_at dksX0_sorts_3 3 rfl rfl)
theorem dX0_sorts_77 : decode cX0_sorts 77 = .ok (.aload_n 0, 1) := dk_42 (dk_at dksX0_sorts_3 6 rfl rfl)
theorem dX0_sorts_78 : decode cX0_sorts 78 = .ok (.getfield 36, 3) := dk_180 0 36 (dk_at dksX0_sorts_3 7 rfl rfl)
theorem dX0_sorts_81 : decode cX0_sorts 81 = .ok (.getfield 160, 3) := dk_180 0 160 (dk_at dksX0_sorts_3 10 rfl rfl)
theorem dX0_sorts_84 : decode cX0_sorts 84 = .ok (.iload 4, 2) := dk_21 4 (dk_at dksX0_sorts_3 13 rfl rfl)
theorem dX0_sorts_86 : decode cX0_sorts 86 = .ok (.aaload, 1) := dk_50 (dk_at dksX0_sorts_3 15 rfl rfl)
theorem dX0_sorts_87 : decode cX0_sorts 87 = .ok (.getfield 241, 3) := dk_180 0 241 (dk_at dksX0_sorts_3 16 rfl rfl)
theorem dX0_sorts_90 : decode cX0_sorts 90 = .ok (.iload_n 1, 1) := dk_27 (dk_at dksX0_sorts_3 19 rfl rfl)
theorem dX0_sorts_91 : decode cX0_sorts 91 = .ok (.if_icmp .ne 7, 3) := dk_160 0 7 (dk_at dksX0_sorts_3 20 rfl rfl)
theorem dX0_sorts_94 : decode cX0_sorts 94 = .ok (.iconst 1, 1) := dk_4 (dk_at dksX0_sorts_3 23 rfl rfl)
theorem dX0_sorts_95 : decode cX0_sorts 95 = .ok (.goto 4, 3) := dk_167 0 4 (dk_at dksX0_sorts_4 0 rfl rfl)
theorem dX0_sorts_98 : decode cX0_sorts 98 = .ok (.iconst 0, 1) := dk_3 (dk_at dksX0_sorts_4 3 rfl rfl)
theorem dX0_sorts_99 : decode cX0_sorts 99 = .ok (.istore 5, 2) := dk_54 5 (dk_at dksX0_sorts_4 4 rfl rfl)
theorem dX0_sorts_101 : decode cX0_sorts 101 = .ok (.iload_n 3, 1) := dk_29 (dk_at dksX0_sorts_4 6 rfl rfl)
theorem dX0_sorts_102 : decode cX0_sorts 102 = .ok (.iload 5, 2) := dk_21 5 (dk_at dksX0_sorts_4 7 rfl rfl)
theorem dX0_sorts_104 : decode cX0_sorts 104 = .ok (.ifCond .eq 7, 3) := dk_153 0 7 (dk_at dksX0_sorts_4 9 rfl rfl)
theorem dX0_sorts_107 : decode cX0_sorts 107 = .ok (.iconst 1, 1) := dk_4 (dk_at dksX0_sorts_4 12 rfl rfl)
theorem dX0_sorts_108 : decode cX0_sorts 108 = .ok (.goto 4, 3) := dk_167 0 4 (dk_at dksX0_sorts_4 13 rfl rfl)
theorem dX0_sorts_111 : decode cX0_sorts 111 = .ok (.iconst 0, 1) := dk_3 (dk_at dksX0_sorts_4 16 rfl rfl)
theorem dX0_sorts_112 : decode cX0_sorts 112 = .ok (.iadd, 1) := dk_96 (dk_at dksX0_sorts_4 17 rfl rfl)
theorem dX0_sorts_113 : decode cX0_sorts 113 = .ok (.istore_n 3, 1) := dk_62 (dk_at dksX0_sorts_4 18 rfl rfl)
theorem dX0_sorts_114 : decode cX0_sorts 114 = .ok (.iinc 4 1, 3) := dk_132 4 1 (dk_at dksX0_sorts_4 19 rfl rfl)
theorem dX0_sorts_117 : decode cX0_sorts 117 = .ok (.goto (-73), 3) := dk_167 255 183 (dk_at dksX0_sorts_5 0 rfl rfl)
theorem dX0_sorts_120 : decode cX0_sorts 120 = .ok (.iload_n 3, 1) := dk_29 (dk_at dksX0_sorts_5 3 rfl rfl)
theorem dX0_sorts_121 : decode cX0_sorts 121 = .ok (.ireturn, 1) := dk_172 (dk_at dksX0_sorts_5 4 rfl rfl)
abbrev cX0_rare : ByteArray := prog_1_method_68_code
def yX0_rare : MethodName := ⟨RX0, "rare", "(I)I"⟩
def dkwX0_rare_5 : List UInt8 := [167, 255, 163, 28, 2, 160, 0, 12, 42, 16, 251, 182, 0, 105, 167, 0, 4, 28, 172]
abbrev dktX0_rare_5 : List UInt8 := dkwX0_rare_5 ++ []
def dkwX0_rare_4 : List UInt8 := [3, 54, 6, 21, 4, 158, 0, 12, 21, 6, 153, 0, 7, 29, 167, 0, 4, 28, 61, 132, 3, 1]
abbrev dktX0_rare_4 : List UInt8 := dkwX0_rare_4 ++ dktX0_rare_5
def dkwX0_rare_3 : List UInt8 := [154, 0, 13, 21, 4, 21, 5, 162, 0, 17, 167, 0, 10, 21, 4, 21, 5, 164, 0, 7, 4, 167, 0, 4]
abbrev dktX0_rare_3 : List UInt8 := dkwX0_rare_3 ++ dktX0_rare_4
def dkwX0_rare_2 : List UInt8 := [167, 0, 14, 42, 180, 0, 36, 180, 0, 186, 28, 182, 1, 42, 54, 5, 28, 2, 159, 0, 24, 27]
abbrev dktX0_rare_2 : List UInt8 := dkwX0_rare_2 ++ dktX0_rare_3
def dkwX0_rare_1 : List UInt8 := [162, 0, 93, 42, 180, 0, 36, 180, 0, 186, 29, 182, 1, 42, 54, 4, 28, 2, 160, 0, 7, 3]
abbrev dktX0_rare_1 : List UInt8 := dkwX0_rare_1 ++ dktX0_rare_2
def dkwX0_rare_0 : List UInt8 := [27, 3, 4, 184, 0, 3, 154, 0, 10, 42, 16, 254, 182, 0, 105, 172, 2, 61, 3, 62, 29, 16, 8]
abbrev dktX0_rare_0 : List UInt8 := dkwX0_rare_0 ++ dktX0_rare_1
theorem dksX0_rare_0 : cX0_rare.data.toList.drop 0 = dktX0_rare_0 := by decide +kernel
theorem dksX0_rare_1 : cX0_rare.data.toList.drop 23 = dktX0_rare_1 := dk_seg dksX0_rare_0 23 rfl rfl
theorem dksX0_rare_2 : cX0_rare.data.toList.drop 45 = dktX0_rare_2 := dk_seg dksX0_rare_1 22 rfl rfl
theorem dksX0_rare_3 : cX0_rare.data.toList.drop 67 = dktX0_rare_3 := dk_seg dksX0_rare_2 22 rfl rfl
theorem dksX0_rare_4 : cX0_rare.data.toList.drop 91 = dktX0_rare_4 := dk_seg dksX0_rare_3 24 rfl rfl
theorem dksX0_rare_5 : cX0_rare.data.toList.drop 113 = dktX0_rare_5 := dk_seg dksX0_rare_4 22 rfl rfl
theorem dX0_rare_0 : decode cX0_rare 0 = .ok (.iload_n 1, 1) := dk_27 (dk_at dksX0_rare_0 0 rfl rfl)
theorem dX0_rare_1 : decode cX0_rare 1 = .ok (.iconst 0, 1) := dk_3 (dk_at dksX0_rare_0 1 rfl rfl)
theorem dX0_rare_2 : decode cX0_rare 2 = .ok (.iconst 1, 1) := dk_4 (dk_at dksX0_rare_0 2 rfl rfl)
theorem dX0_rare_3 : decode cX0_rare 3 = .ok (.invokestatic 3, 3) := dk_184 0 3 (dk_at dksX0_rare_0 3 rfl rfl)
theorem dX0_rare_6 : decode cX0_rare 6 = .ok (.ifCond .ne 10, 3) := dk_154 0 10 (dk_at dksX0_rare_0 6 rfl rfl)
theorem dX0_rare_9 : decode cX0_rare 9 = .ok (.aload_n 0, 1) := dk_42 (dk_at dksX0_rare_0 9 rfl rfl)
theorem dX0_rare_10 : decode cX0_rare 10 = .ok (.bipush (-2), 2) := dk_16 254 (dk_at dksX0_rare_0 10 rfl rfl)
theorem dX0_rare_12 : decode cX0_rare 12 = .ok (.invokevirtual 105, 3) := dk_182 0 105 (dk_at dksX0_rare_0 12 rfl rfl)
theorem dX0_rare_15 : decode cX0_rare 15 = .ok (.ireturn, 1) := dk_172 (dk_at dksX0_rare_0 15 rfl rfl)
theorem dX0_rare_16 : decode cX0_rare 16 = .ok (.iconst (-1), 1) := dk_2 (dk_at dksX0_rare_0 16 rfl rfl)
theorem dX0_rare_17 : decode cX0_rare 17 = .ok (.istore_n 2, 1) := dk_61 (dk_at dksX0_rare_0 17 rfl rfl)
theorem dX0_rare_18 : decode cX0_rare 18 = .ok (.iconst 0, 1) := dk_3 (dk_at dksX0_rare_0 18 rfl rfl)
theorem dX0_rare_19 : decode cX0_rare 19 = .ok (.istore_n 3, 1) := dk_62 (dk_at dksX0_rare_0 19 rfl rfl)
theorem dX0_rare_20 : decode cX0_rare 20 = .ok (.iload_n 3, 1) := dk_29 (dk_at dksX0_rare_0 20 rfl rfl)
theorem dX0_rare_21 : decode cX0_rare 21 = .ok (.bipush 8, 2) := dk_16 8 (dk_at dksX0_rare_0 21 rfl rfl)
theorem dX0_rare_23 : decode cX0_rare 23 = .ok (.if_icmp .ge 93, 3) := dk_162 0 93 (dk_at dksX0_rare_1 0 rfl rfl)
theorem dX0_rare_26 : decode cX0_rare 26 = .ok (.aload_n 0, 1) := dk_42 (dk_at dksX0_rare_1 3 rfl rfl)
theorem dX0_rare_27 : decode cX0_rare 27 = .ok (.getfield 36, 3) := dk_180 0 36 (dk_at dksX0_rare_1 4 rfl rfl)
theorem dX0_rare_30 : decode cX0_rare 30 = .ok (.getfield 186, 3) := dk_180 0 186 (dk_at dksX0_rare_1 7 rfl rfl)
theorem dX0_rare_33 : decode cX0_rare 33 = .ok (.iload_n 3, 1) := dk_29 (dk_at dksX0_rare_1 10 rfl rfl)
theorem dX0_rare_34 : decode cX0_rare 34 = .ok (.invokevirtual 298, 3) := dk_182 1 42 (dk_at dksX0_rare_1 11 rfl rfl)
theorem dX0_rare_37 : decode cX0_rare 37 = .ok (.istore 4, 2) := dk_54 4 (dk_at dksX0_rare_1 14 rfl rfl)
theorem dX0_rare_39 : decode cX0_rare 39 = .ok (.iload_n 2, 1) := dk_28 (dk_at dksX0_rare_1 16 rfl rfl)
theorem dX0_rare_40 : decode cX0_rare 40 = .ok (.iconst (-1), 1) := dk_2 (dk_at dksX0_rare_1 17 rfl rfl)
theorem dX0_rare_41 : decode cX0_rare 41 = .ok (.if_icmp .ne 7, 3) := dk_160 0 7 (dk_at dksX0_rare_1 18 rfl rfl)
theorem dX0_rare_44 : decode cX0_rare 44 = .ok (.iconst 0, 1) := dk_3 (dk_at dksX0_rare_1 21 rfl rfl)
theorem dX0_rare_45 : decode cX0_rare 45 = .ok (.goto 14, 3) := dk_167 0 14 (dk_at dksX0_rare_2 0 rfl rfl)
theorem dX0_rare_48 : decode cX0_rare 48 = .ok (.aload_n 0, 1) := dk_42 (dk_at dksX0_rare_2 3 rfl rfl)
theorem dX0_rare_49 : decode cX0_rare 49 = .ok (.getfield 36, 3) := dk_180 0 36 (dk_at dksX0_rare_2 4 rfl rfl)
theorem dX0_rare_52 : decode cX0_rare 52 = .ok (.getfield 186, 3) := dk_180 0 186 (dk_at dksX0_rare_2 7 rfl rfl)
theorem dX0_rare_55 : decode cX0_rare 55 = .ok (.iload_n 2, 1) := dk_28 (dk_at dksX0_rare_2 10 rfl rfl)
theorem dX0_rare_56 : decode cX0_rare 56 = .ok (.invokevirtual 298, 3) := dk_182 1 42 (dk_at dksX0_rare_2 11 rfl rfl)
theorem dX0_rare_59 : decode cX0_rare 59 = .ok (.istore 5, 2) := dk_54 5 (dk_at dksX0_rare_2 14 rfl rfl)
theorem dX0_rare_61 : decode cX0_rare 61 = .ok (.iload_n 2, 1) := dk_28 (dk_at dksX0_rare_2 16 rfl rfl)
theorem dX0_rare_62 : decode cX0_rare 62 = .ok (.iconst (-1), 1) := dk_2 (dk_at dksX0_rare_2 17 rfl rfl)
theorem dX0_rare_63 : decode cX0_rare 63 = .ok (.if_icmp .eq 24, 3) := dk_159 0 24 (dk_at dksX0_rare_2 18 rfl rfl)
theorem dX0_rare_66 : decode cX0_rare 66 = .ok (.iload_n 1, 1) := dk_27 (dk_at dksX0_rare_2 21 rfl rfl)
theorem dX0_rare_67 : decode cX0_rare 67 = .ok (.ifCond .ne 13, 3) := dk_154 0 13 (dk_at dksX0_rare_3 0 rfl rfl)
theorem dX0_rare_70 : decode cX0_rare 70 = .ok (.iload 4, 2) := dk_21 4 (dk_at dksX0_rare_3 3 rfl rfl)
theorem dX0_rare_72 : decode cX0_rare 72 = .ok (.iload 5, 2) := dk_21 5 (dk_at dksX0_rare_3 5 rfl rfl)
theorem dX0_rare_74 : decode cX0_rare 74 = .ok (.if_icmp .ge 17, 3) := dk_162 0 17 (dk_at dksX0_rare_3 7 rfl rfl)
theorem dX0_rare_77 : decode cX0_rare 77 = .ok (.goto 10, 3) := dk_167 0 10 (dk_at dksX0_rare_3 10 rfl rfl)
theorem dX0_rare_80 : decode cX0_rare 80 = .ok (.iload 4, 2) := dk_21 4 (dk_at dksX0_rare_3 13 rfl rfl)
theorem dX0_rare_82 : decode cX0_rare 82 = .ok (.iload 5, 2) := dk_21 5 (dk_at dksX0_rare_3 15 rfl rfl)
theorem dX0_rare_84 : decode cX0_rare 84 = .ok (.if_icmp .le 7, 3) := dk_164 0 7 (dk_at dksX0_rare_3 17 rfl rfl)
theorem dX0_rare_87 : decode cX0_rare 87 = .ok (.iconst 1, 1) := dk_4 (dk_at dksX0_rare_3 20 rfl rfl)
theorem dX0_rare_88 : decode cX0_rare 88 = .ok (.goto 4, 3) := dk_167 0 4 (dk_at dksX0_rare_3 21 rfl rfl)
theorem dX0_rare_91 : decode cX0_rare 91 = .ok (.iconst 0, 1) := dk_3 (dk_at dksX0_rare_4 0 rfl rfl)
theorem dX0_rare_92 : decode cX0_rare 92 = .ok (.istore 6, 2) := dk_54 6 (dk_at dksX0_rare_4 1 rfl rfl)
theorem dX0_rare_94 : decode cX0_rare 94 = .ok (.iload 4, 2) := dk_21 4 (dk_at dksX0_rare_4 3 rfl rfl)
theorem dX0_rare_96 : decode cX0_rare 96 = .ok (.ifCond .le 12, 3) := dk_158 0 12 (dk_at dksX0_rare_4 5 rfl rfl)
theorem dX0_rare_99 : decode cX0_rare 99 = .ok (.iload 6, 2) := dk_21 6 (dk_at dksX0_rare_4 8 rfl rfl)
theorem dX0_rare_101 : decode cX0_rare 101 = .ok (.ifCond .eq 7, 3) := dk_153 0 7 (dk_at dksX0_rare_4 10 rfl rfl)
theorem dX0_rare_104 : decode cX0_rare 104 = .ok (.iload_n 3, 1) := dk_29 (dk_at dksX0_rare_4 13 rfl rfl)
theorem dX0_rare_105 : decode cX0_rare 105 = .ok (.goto 4, 3) := dk_167 0 4 (dk_at dksX0_rare_4 14 rfl rfl)
theorem dX0_rare_108 : decode cX0_rare 108 = .ok (.iload_n 2, 1) := dk_28 (dk_at dksX0_rare_4 17 rfl rfl)
theorem dX0_rare_109 : decode cX0_rare 109 = .ok (.istore_n 2, 1) := dk_61 (dk_at dksX0_rare_4 18 rfl rfl)
theorem dX0_rare_110 : decode cX0_rare 110 = .ok (.iinc 3 1, 3) := dk_132 3 1 (dk_at dksX0_rare_4 19 rfl rfl)
theorem dX0_rare_113 : decode cX0_rare 113 = .ok (.goto (-93), 3) := dk_167 255 163 (dk_at dksX0_rare_5 0 rfl rfl)
theorem dX0_rare_116 : decode cX0_rare 116 = .ok (.iload_n 2, 1) := dk_28 (dk_at dksX0_rare_5 3 rfl rfl)
theorem dX0_rare_117 : decode cX0_rare 117 = .ok (.iconst (-1), 1) := dk_2 (dk_at dksX0_rare_5 4 rfl rfl)
theorem dX0_rare_118 : decode cX0_rare 118 = .ok (.if_icmp .ne 12, 3) := dk_160 0 12 (dk_at dksX0_rare_5 5 rfl rfl)
theorem dX0_rare_121 : decode cX0_rare 121 = .ok (.aload_n 0, 1) := dk_42 (dk_at dksX0_rare_5 8 rfl rfl)
theorem dX0_rare_122 : decode cX0_rare 122 = .ok (.bipush (-5), 2) := dk_16 251 (dk_at dksX0_rare_5 9 rfl rfl)
theorem dX0_rare_124 : decode cX0_rare 124 = .ok (.invokevirtual 105, 3) := dk_182 0 105 (dk_at dksX0_rare_5 11 rfl rfl)
theorem dX0_rare_127 : decode cX0_rare 127 = .ok (.goto 4, 3) := dk_167 0 4 (dk_at dksX0_rare_5 14 rfl rfl)
theorem dX0_rare_130 : decode cX0_rare 130 = .ok (.iload_n 2, 1) := dk_28 (dk_at dksX0_rare_5 17 rfl rfl)
theorem dX0_rare_131 : decode cX0_rare 131 = .ok (.ireturn, 1) := dk_172 (dk_at dksX0_rare_5 18 rfl rfl)
abbrev cX0_first : ByteArray := prog_1_method_70_code
def yX0_first : MethodName := ⟨RX0, "first", "(I)I"⟩
def dkwX0_first_3 : List UInt8 := [16, 251, 182, 0, 105, 167, 0, 4, 28, 172]
abbrev dktX0_first_3 : List UInt8 := dkwX0_first_3 ++ []
def dkwX0_first_2 : List UInt8 := [182, 1, 88, 164, 0, 7, 29, 167, 0, 4, 28, 61, 132, 3, 1, 167, 255, 216, 28, 2, 160, 0, 12, 42]
abbrev dktX0_first_2 : List UInt8 := dkwX0_first_2 ++ dktX0_first_3
def dkwX0_first_1 : List UInt8 := [180, 0, 36, 180, 0, 192, 162, 0, 35, 28, 2, 159, 0, 18, 42, 29, 27, 182, 1, 88, 42, 28, 27]
abbrev dktX0_first_1 : List UInt8 := dkwX0_first_1 ++ dktX0_first_2
def dkwX0_first_0 : List UInt8 := [27, 3, 5, 184, 0, 3, 154, 0, 10, 42, 16, 254, 182, 0, 105, 172, 2, 61, 3, 62, 29, 42]
abbrev dktX0_first_0 : List UInt8 := dkwX0_first_0 ++ dktX0_first_1
theorem dksX0_first_0 : cX0_first.data.toList.drop 0 = dktX0_first_0 := by decide +kernel
theorem dksX0_first_1 : cX0_first.data.toList.drop 22 = dktX0_first_1 := dk_seg dksX0_first_0 22 rfl rfl
theorem dksX0_first_2 : cX0_first.data.toList.drop 45 = dktX0_first_2 := dk_seg dksX0_first_1 23 rfl rfl
theorem dksX0_first_3 : cX0_first.data.toList.drop 69 = dktX0_first_3 := dk_seg dksX0_first_2 24 rfl rfl
theorem dX0_first_0 : decode cX0_first 0 = .ok (.iload_n 1, 1) := dk_27 (dk_at dksX0_first_0 0 rfl rfl)
theorem dX0_first_1 : decode cX0_first 1 = .ok (.iconst 0, 1) := dk_3 (dk_at dksX0_first_0 1 rfl rfl)
theorem dX0_first_2 : decode cX0_first 2 = .ok (.iconst 2, 1) := dk_5 (dk_at dksX0_first_0 2 rfl rfl)
theorem dX0_first_3 : decode cX0_first 3 = .ok (.invokestatic 3, 3) := dk_184 0 3 (dk_at dksX0_first_0 3 rfl rfl)
theorem dX0_first_6 : decode cX0_first 6 = .ok (.ifCond .ne 10, 3) := dk_154 0 10 (dk_at dksX0_first_0 6 rfl rfl)
theorem dX0_first_9 : decode cX0_first 9 = .ok (.aload_n 0, 1) := dk_42 (dk_at dksX0_first_0 9 rfl rfl)
theorem dX0_first_10 : decode cX0_first 10 = .ok (.bipush (-2), 2) := dk_16 254 (dk_at dksX0_first_0 10 rfl rfl)
theorem dX0_first_12 : decode cX0_first 12 = .ok (.invokevirtual 105, 3) := dk_182 0 105 (dk_at dksX0_first_0 12 rfl rfl)
theorem dX0_first_15 : decode cX0_first 15 = .ok (.ireturn, 1) := dk_172 (dk_at dksX0_first_0 15 rfl rfl)
theorem dX0_first_16 : decode cX0_first 16 = .ok (.iconst (-1), 1) := dk_2 (dk_at dksX0_first_0 16 rfl rfl)
theorem dX0_first_17 : decode cX0_first 17 = .ok (.istore_n 2, 1) := dk_61 (dk_at dksX0_first_0 17 rfl rfl)
theorem dX0_first_18 : decode cX0_first 18 = .ok (.iconst 0, 1) := dk_3 (dk_at dksX0_first_0 18 rfl rfl)
theorem dX0_first_19 : decode cX0_first 19 = .ok (.istore_n 3, 1) := dk_62 (dk_at dksX0_first_0 19 rfl rfl)
theorem dX0_first_20 : decode cX0_first 20 = .ok (.iload_n 3, 1) := dk_29 (dk_at dksX0_first_0 20 rfl rfl)
theorem dX0_first_21 : decode cX0_first 21 = .ok (.aload_n 0, 1) := dk_42 (dk_at dksX0_first_0 21 rfl rfl)
theorem dX0_first_22 : decode cX0_first 22 = .ok (.getfield 36, 3) := dk_180 0 36 (dk_at dksX0_first_1 0 rfl rfl)
theorem dX0_first_25 : decode cX0_first 25 = .ok (.getfield 192, 3) := dk_180 0 192 (dk_at dksX0_first_1 3 rfl rfl)
theorem dX0_first_28 : decode cX0_first 28 = .ok (.if_icmp .ge 35, 3) := dk_162 0 35 (dk_at dksX0_first_1 6 rfl rfl)
theorem dX0_first_31 : decode cX0_first 31 = .ok (.iload_n 2, 1) := dk_28 (dk_at dksX0_first_1 9 rfl rfl)
theorem dX0_first_32 : decode cX0_first 32 = .ok (.iconst (-1), 1) := dk_2 (dk_at dksX0_first_1 10 rfl rfl)
theorem dX0_first_33 : decode cX0_first 33 = .ok (.if_icmp .eq 18, 3) := dk_159 0 18 (dk_at dksX0_first_1 11 rfl rfl)
theorem dX0_first_36 : decode cX0_first 36 = .ok (.aload_n 0, 1) := dk_42 (dk_at dksX0_first_1 14 rfl rfl)
theorem dX0_first_37 : decode cX0_first 37 = .ok (.iload_n 3, 1) := dk_29 (dk_at dksX0_first_1 15 rfl rfl)
theorem dX0_first_38 : decode cX0_first 38 = .ok (.iload_n 1, 1) := dk_27 (dk_at dksX0_first_1 16 rfl rfl)
theorem dX0_first_39 : decode cX0_first 39 = .ok (.invokevirtual 344, 3) := dk_182 1 88 (dk_at dksX0_first_1 17 rfl rfl)
theorem dX0_first_42 : decode cX0_first 42 = .ok (.aload_n 0, 1) := dk_42 (dk_at dksX0_first_1 20 rfl rfl)
theorem dX0_first_43 : decode cX0_first 43 = .ok (.iload_n 2, 1) := dk_28 (dk_at dksX0_first_1 21 rfl rfl)
theorem dX0_first_44 : decode cX0_first 44 = .ok (.iload_n 1, 1) := dk_27 (dk_at dksX0_first_1 22 rfl rfl)
theorem dX0_first_45 : decode cX0_first 45 = .ok (.invokevirtual 344, 3) := dk_182 1 88 (dk_at dksX0_first_2 0 rfl rfl)
theorem dX0_first_48 : decode cX0_first 48 = .ok (.if_icmp .le 7, 3) := dk_164 0 7 (dk_at dksX0_first_2 3 rfl rfl)
theorem dX0_first_51 : decode cX0_first 51 = .ok (.iload_n 3, 1) := dk_29 (dk_at dksX0_first_2 6 rfl rfl)
theorem dX0_first_52 : decode cX0_first 52 = .ok (.goto 4, 3) := dk_167 0 4 (dk_at dksX0_first_2 7 rfl rfl)
theorem dX0_first_55 : decode cX0_first 55 = .ok (.iload_n 2, 1) := dk_28 (dk_at dksX0_first_2 10 rfl rfl)
theorem dX0_first_56 : decode cX0_first 56 = .ok (.istore_n 2, 1) := dk_61 (dk_at dksX0_first_2 11 rfl rfl)
theorem dX0_first_57 : decode cX0_first 57 = .ok (.iinc 3 1, 3) := dk_132 3 1 (dk_at dksX0_first_2 12 rfl rfl)
theorem dX0_first_60 : decode cX0_first 60 = .ok (.goto (-40), 3) := dk_167 255 216 (dk_at dksX0_first_2 15 rfl rfl)
theorem dX0_first_63 : decode cX0_first 63 = .ok (.iload_n 2, 1) := dk_28 (dk_at dksX0_first_2 18 rfl rfl)
theorem dX0_first_64 : decode cX0_first 64 = .ok (.iconst (-1), 1) := dk_2 (dk_at dksX0_first_2 19 rfl rfl)
theorem dX0_first_65 : decode cX0_first 65 = .ok (.if_icmp .ne 12, 3) := dk_160 0 12 (dk_at dksX0_first_2 20 rfl rfl)
theorem dX0_first_68 : decode cX0_first 68 = .ok (.aload_n 0, 1) := dk_42 (dk_at dksX0_first_2 23 rfl rfl)
theorem dX0_first_69 : decode cX0_first 69 = .ok (.bipush (-5), 2) := dk_16 251 (dk_at dksX0_first_3 0 rfl rfl)
theorem dX0_first_71 : decode cX0_first 71 = .ok (.invokevirtual 105, 3) := dk_182 0 105 (dk_at dksX0_first_3 2 rfl rfl)
theorem dX0_first_74 : decode cX0_first 74 = .ok (.goto 4, 3) := dk_167 0 4 (dk_at dksX0_first_3 5 rfl rfl)
theorem dX0_first_77 : decode cX0_first 77 = .ok (.iload_n 2, 1) := dk_28 (dk_at dksX0_first_3 8 rfl rfl)
theorem dX0_first_78 : decode cX0_first 78 = .ok (.ireturn, 1) := dk_172 (dk_at dksX0_first_3 9 rfl rfl)
abbrev cX0_of : ByteArray := prog_1_method_69_code
def yX0_of : MethodName := ⟨RX0, "of", "(II)I"⟩
def dkwX0_of_1 : List UInt8 := [180, 0, 36, 180, 0, 171, 27, 46, 167, 0, 11, 42, 180, 0, 36, 27, 182, 1, 86, 172]
abbrev dktX0_of_1 : List UInt8 := dkwX0_of_1 ++ []
def dkwX0_of_0 : List UInt8 := [28, 154, 0, 16, 42, 180, 0, 36, 180, 0, 171, 27, 46, 116, 167, 0, 28, 28, 4, 160, 0, 15, 42]
abbrev dktX0_of_0 : List UInt8 := dkwX0_of_0 ++ dktX0_of_1
theorem dksX0_of_0 : cX0_of.data.toList.drop 0 = dktX0_of_0 := by decide +kernel
theorem dksX0_of_1 : cX0_of.data.toList.drop 23 = dktX0_of_1 := dk_seg dksX0_of_0 23 rfl rfl
theorem dX0_of_0 : decode cX0_of 0 = .ok (.iload_n 2, 1) := dk_28 (dk_at dksX0_of_0 0 rfl rfl)
theorem dX0_of_1 : decode cX0_of 1 = .ok (.ifCond .ne 16, 3) := dk_154 0 16 (dk_at dksX0_of_0 1 rfl rfl)
theorem dX0_of_4 : decode cX0_of 4 = .ok (.aload_n 0, 1) := dk_42 (dk_at dksX0_of_0 4 rfl rfl)
theorem dX0_of_5 : decode cX0_of 5 = .ok (.getfield 36, 3) := dk_180 0 36 (dk_at dksX0_of_0 5 rfl rfl)
theorem dX0_of_8 : decode cX0_of 8 = .ok (.getfield 171, 3) := dk_180 0 171 (dk_at dksX0_of_0 8 rfl rfl)
theorem dX0_of_11 : decode cX0_of 11 = .ok (.iload_n 1, 1) := dk_27 (dk_at dksX0_of_0 11 rfl rfl)
theorem dX0_of_12 : decode cX0_of 12 = .ok (.iaload, 1) := dk_46 (dk_at dksX0_of_0 12 rfl rfl)
theorem dX0_of_13 : decode cX0_of 13 = .ok (.ineg, 1) := dk_116 (dk_at dksX0_of_0 13 rfl rfl)
theorem dX0_of_14 : decode cX0_of 14 = .ok (.goto 28, 3) := dk_167 0 28 (dk_at dksX0_of_0 14 rfl rfl)
theorem dX0_of_17 : decode cX0_of 17 = .ok (.iload_n 2, 1) := dk_28 (dk_at dksX0_of_0 17 rfl rfl)
theorem dX0_of_18 : decode cX0_of 18 = .ok (.iconst 1, 1) := dk_4 (dk_at dksX0_of_0 18 rfl rfl)
theorem dX0_of_19 : decode cX0_of 19 = .ok (.if_icmp .ne 15, 3) := dk_160 0 15 (dk_at dksX0_of_0 19 rfl rfl)
theorem dX0_of_22 : decode cX0_of 22 = .ok (.aload_n 0, 1) := dk_42 (dk_at dksX0_of_0 22 rfl rfl)
theorem dX0_of_23 : decode cX0_of 23 = .ok (.getfield 36, 3) := dk_180 0 36 (dk_at dksX0_of_1 0 rfl rfl)
theorem dX0_of_26 : decode cX0_of 26 = .ok (.getfield 171, 3) := dk_180 0 171 (dk_at dksX0_of_1 3 rfl rfl)
theorem dX0_of_29 : decode cX0_of 29 = .ok (.iload_n 1, 1) := dk_27 (dk_at dksX0_of_1 6 rfl rfl)
theorem dX0_of_30 : decode cX0_of 30 = .ok (.iaload, 1) := dk_46 (dk_at dksX0_of_1 7 rfl rfl)
theorem dX0_of_31 : decode cX0_of 31 = .ok (.goto 11, 3) := dk_167 0 11 (dk_at dksX0_of_1 8 rfl rfl)
theorem dX0_of_34 : decode cX0_of 34 = .ok (.aload_n 0, 1) := dk_42 (dk_at dksX0_of_1 11 rfl rfl)
theorem dX0_of_35 : decode cX0_of 35 = .ok (.getfield 36, 3) := dk_180 0 36 (dk_at dksX0_of_1 12 rfl rfl)
theorem dX0_of_38 : decode cX0_of 38 = .ok (.iload_n 1, 1) := dk_27 (dk_at dksX0_of_1 15 rfl rfl)
theorem dX0_of_39 : decode cX0_of 39 = .ok (.invokevirtual 342, 3) := dk_182 1 86 (dk_at dksX0_of_1 16 rfl rfl)
theorem dX0_of_42 : decode cX0_of 42 = .ok (.ireturn, 1) := dk_172 (dk_at dksX0_of_1 19 rfl rfl)
abbrev cX0_next : ByteArray := prog_1_method_76_code
def yX0_next : MethodName := ⟨RX0, "next", "(I)I"⟩
def dkwX0_next_1 : List UInt8 := [180, 0, 61, 27, 46, 172]
abbrev dktX0_next_1 : List UInt8 := dkwX0_next_1 ++ []
def dkwX0_next_0 : List UInt8 := [42, 180, 0, 36, 27, 182, 0, 157, 154, 0, 10, 42, 16, 254, 182, 0, 105, 172, 42, 182, 1, 99, 42]
abbrev dktX0_next_0 : List UInt8 := dkwX0_next_0 ++ dktX0_next_1
theorem dksX0_next_0 : cX0_next.data.toList.drop 0 = dktX0_next_0 := by decide +kernel
theorem dksX0_next_1 : cX0_next.data.toList.drop 23 = dktX0_next_1 := dk_seg dksX0_next_0 23 rfl rfl
theorem dX0_next_0 : decode cX0_next 0 = .ok (.aload_n 0, 1) := dk_42 (dk_at dksX0_next_0 0 rfl rfl)
theorem dX0_next_1 : decode cX0_next 1 = .ok (.getfield 36, 3) := dk_180 0 36 (dk_at dksX0_next_0 1 rfl rfl)
theorem dX0_next_4 : decode cX0_next 4 = .ok (.iload_n 1, 1) := dk_27 (dk_at dksX0_next_0 4 rfl rfl)
theorem dX0_next_5 : decode cX0_next 5 = .ok (.invokevirtual 157, 3) := dk_182 0 157 (dk_at dksX0_next_0 5 rfl rfl)
theorem dX0_next_8 : decode cX0_next 8 = .ok (.ifCond .ne 10, 3) := dk_154 0 10 (dk_at dksX0_next_0 8 rfl rfl)
theorem dX0_next_11 : decode cX0_next 11 = .ok (.aload_n 0, 1) := dk_42 (dk_at dksX0_next_0 11 rfl rfl)
theorem dX0_next_12 : decode cX0_next 12 = .ok (.bipush (-2), 2) := dk_16 254 (dk_at dksX0_next_0 12 rfl rfl)
theorem dX0_next_14 : decode cX0_next 14 = .ok (.invokevirtual 105, 3) := dk_182 0 105 (dk_at dksX0_next_0 14 rfl rfl)
theorem dX0_next_17 : decode cX0_next 17 = .ok (.ireturn, 1) := dk_172 (dk_at dksX0_next_0 17 rfl rfl)
theorem dX0_next_18 : decode cX0_next 18 = .ok (.aload_n 0, 1) := dk_42 (dk_at dksX0_next_0 18 rfl rfl)
theorem dX0_next_19 : decode cX0_next 19 = .ok (.invokevirtual 355, 3) := dk_182 1 99 (dk_at dksX0_next_0 19 rfl rfl)
theorem dX0_next_22 : decode cX0_next 22 = .ok (.aload_n 0, 1) := dk_42 (dk_at dksX0_next_0 22 rfl rfl)
theorem dX0_next_23 : decode cX0_next 23 = .ok (.getfield 61, 3) := dk_180 0 61 (dk_at dksX0_next_1 0 rfl rfl)
theorem dX0_next_26 : decode cX0_next 26 = .ok (.iload_n 1, 1) := dk_27 (dk_at dksX0_next_1 3 rfl rfl)
theorem dX0_next_27 : decode cX0_next 27 = .ok (.iaload, 1) := dk_46 (dk_at dksX0_next_1 4 rfl rfl)
theorem dX0_next_28 : decode cX0_next 28 = .ok (.ireturn, 1) := dk_172 (dk_at dksX0_next_1 5 rfl rfl)
abbrev cX0_swaps : ByteArray := prog_1_method_74_code
def yX0_swaps : MethodName := ⟨RX0, "swaps", "()V"⟩
def dkwX0_swaps_7 : List UInt8 := [60, 167, 255, 140, 177]
abbrev dktX0_swaps_7 : List UInt8 := dkwX0_swaps_7 ++ []
def dkwX0_swaps_6 : List UInt8 := [180, 0, 64, 29, 46, 46, 79, 28, 4, 29, 120, 128, 61, 132, 3, 1, 167, 255, 200, 27, 28, 2, 130, 126]
abbrev dktX0_swaps_6 : List UInt8 := dkwX0_swaps_6 ++ dktX0_swaps_7
def dkwX0_swaps_5 : List UInt8 := [153, 0, 37, 42, 29, 182, 1, 96, 153, 0, 29, 42, 180, 0, 61, 29, 42, 180, 0, 36, 180, 0, 209, 42]
abbrev dktX0_swaps_5 : List UInt8 := dkwX0_swaps_5 ++ dktX0_swaps_6
def dkwX0_swaps_4 : List UInt8 := [132, 3, 1, 167, 255, 218, 3, 62, 29, 42, 180, 0, 36, 180, 0, 192, 162, 0, 51, 27, 29, 184, 0, 202]
abbrev dktX0_swaps_4 : List UInt8 := dkwX0_swaps_4 ++ dktX0_swaps_5
def dkwX0_swaps_3 : List UInt8 := [180, 0, 64, 29, 27, 29, 184, 0, 202, 153, 0, 12, 42, 29, 27, 182, 1, 93, 167, 0, 4, 2, 79]
abbrev dktX0_swaps_3 : List UInt8 := dkwX0_swaps_3 ++ dktX0_swaps_4
def dkwX0_swaps_2 : List UInt8 := [167, 255, 212, 27, 153, 0, 118, 3, 61, 3, 62, 29, 42, 180, 0, 36, 180, 0, 192, 162, 0, 33, 42]
abbrev dktX0_swaps_2 : List UInt8 := dkwX0_swaps_2 ++ dktX0_swaps_3
def dkwX0_swaps_1 : List UInt8 := [180, 0, 36, 180, 0, 209, 28, 46, 2, 159, 0, 9, 4, 28, 120, 167, 0, 4, 3, 128, 60, 132, 2, 1]
abbrev dktX0_swaps_1 : List UInt8 := dkwX0_swaps_1 ++ dktX0_swaps_2
def dkwX0_swaps_0 : List UInt8 := [3, 60, 3, 61, 28, 42, 180, 0, 36, 180, 0, 192, 162, 0, 39, 42, 180, 0, 61, 28, 2, 79, 27, 42]
abbrev dktX0_swaps_0 : List UInt8 := dkwX0_swaps_0 ++ dktX0_swaps_1
theorem dksX0_swaps_0 : cX0_swaps.data.toList.drop 0 = dktX0_swaps_0 := by decide +kernel
theorem dksX0_swaps_1 : cX0_swaps.data.toList.drop 24 = dktX0_swaps_1 := dk_seg dksX0_swaps_0 24 rfl rfl
theorem dksX0_swaps_2 : cX0_swaps.data.toList.drop 48 = dktX0_swaps_2 := dk_seg dksX0_swaps_1 24 rfl rfl
theorem dksX0_swaps_3 : cX0_swaps.data.toList.drop 71 = dktX0_swaps_3 := dk_seg dksX0_swaps_2 23 rfl rfl
theorem dksX0_swaps_4 : cX0_swaps.data.toList.drop 94 = dktX0_swaps_4 := dk_seg dksX0_swaps_3 23 rfl rfl
theorem dksX0_swaps_5 : cX0_swaps.data.toList.drop 118 = dktX0_swaps_5 := dk_seg dksX0_swaps_4 24 rfl rfl
theorem dksX0_swaps_6 : cX0_swaps.data.toList.drop 142 = dktX0_swaps_6 := dk_seg dksX0_swaps_5 24 rfl rfl
theorem dksX0_swaps_7 : cX0_swaps.data.toList.drop 166 = dktX0_swaps_7 := dk_seg dksX0_swaps_6 24 rfl rfl
theorem dX0_swaps_0 : decode cX0_swaps 0 = .ok (.iconst 0, 1) := dk_3 (dk_at dksX0_swaps_0 0 rfl rfl)
theorem dX0_swaps_1 : decode cX0_swaps 1 = .ok (.istore_n 1, 1) := dk_60 (dk_at dksX0_swaps_0 1 rfl rfl)
theorem dX0_swaps_2 : decode cX0_swaps 2 = .ok (.iconst 0, 1) := dk_3 (dk_at dksX0_swaps_0 2 rfl rfl)
theorem dX0_swaps_3 : decode cX0_swaps 3 = .ok (.istore_n 2, 1) := dk_61 (dk_at dksX0_swaps_0 3 rfl rfl)
theorem dX0_swaps_4 : decode cX0_swaps 4 = .ok (.iload_n 2, 1) := dk_28 (dk_at dksX0_swaps_0 4 rfl rfl)
theorem dX0_swaps_5 : decode cX0_swaps 5 = .ok (.aload_n 0, 1) := dk_42 (dk_at dksX0_swaps_0 5 rfl rfl)
theorem dX0_swaps_6 : decode cX0_swaps 6 = .ok (.getfield 36, 3) := dk_180 0 36 (dk_at dksX0_swaps_0 6 rfl rfl)
theorem dX0_swaps_9 : decode cX0_swaps 9 = .ok (.getfield 192, 3) := dk_180 0 192 (dk_at dksX0_swaps_0 9 rfl rfl)
theorem dX0_swaps_12 : decode cX0_swaps 12 = .ok (.if_icmp .ge 39, 3) := dk_162 0 39 (dk_at dksX0_swaps_0 12 rfl rfl)
theorem dX0_swaps_15 : decode cX0_swaps 15 = .ok (.aload_n 0, 1) := dk_42 (dk_at dksX0_swaps_0 15 rfl rfl)
theorem dX0_swaps_16 : decode cX0_swaps 16 = .ok (.getfield 61, 3) := dk_180 0 61 (dk_at dksX0_swaps_0 16 rfl rfl)
theorem dX0_swaps_19 : decode cX0_swaps 19 = .ok (.iload_n 2, 1) := dk_28 (dk_at dksX0_swaps_0 19 rfl rfl)
theorem dX0_swaps_20 : decode cX0_swaps 20 = .ok (.iconst (-1), 1) := dk_2 (dk_at dksX0_swaps_0 20 rfl rfl)
theorem dX0_swaps_21 : decode cX0_swaps 21 = .ok (.iastore, 1) := dk_79 (dk_at dksX0_swaps_0 21 rfl rfl)
theorem dX0_swaps_22 : decode cX0_swaps 22 = .ok (.iload_n 1, 1) := dk_27 (dk_at dksX0_swaps_0 22 rfl rfl)
theorem dX0_swaps_23 : decode cX0_swaps 23 = .ok (.aload_n 0, 1) := dk_42 (dk_at dksX0_swaps_0 23 rfl rfl)
theorem dX0_swaps_24 : decode cX0_swaps 24 = .ok (.getfield 36, 3) := dk_180 0 36 (dk_at dksX0_swaps_1 0 rfl rfl)
theorem dX0_swaps_27 : decode cX0_swaps 27 = .ok (.getfield 209, 3) := dk_180 0 209 (dk_at dksX0_swaps_1 3 rfl rfl)
theorem dX0_swaps_30 : decode cX0_swaps 30 = .ok (.iload_n 2, 1) := dk_28 (dk_at dksX0_swaps_1 6 rfl rfl)
theorem dX0_swaps_31 : decode cX0_swaps 31 = .ok (.iaload, 1) := dk_46 (dk_at dksX0_swaps_1 7 rfl rfl)
theorem dX0_swaps_32 : decode cX0_swaps 32 = .ok (.iconst (-1), 1) := dk_2 (dk_at dksX0_swaps_1 8 rfl rfl)
theorem dX0_swaps_33 : decode cX0_swaps 33 = .ok (.if_icmp .eq 9, 3) := dk_159 0 9 (dk_at dksX0_swaps_1 9 rfl rfl)
theorem dX0_swaps_36 : decode cX0_swaps 36 = .ok (.iconst 1, 1) := dk_4 (dk_at dksX0_swaps_1 12 rfl rfl)
theorem dX0_swaps_37 : decode cX0_swaps 37 = .ok (.iload_n 2, 1) := dk_28 (dk_at dksX0_swaps_1 13 rfl rfl)
theorem dX0_swaps_38 : decode cX0_swaps 38 = .ok (.ishl, 1) := dk_120 (dk_at dksX0_swaps_1 14 rfl rfl)
theorem dX0_swaps_39 : decode cX0_swaps 39 = .ok (.goto 4, 3) := dk_167 0 4 (dk_at dksX0_swaps_1 15 rfl rfl)
theorem dX0_swaps_42 : decode cX0_swaps 42 = .ok (.iconst 0, 1) := dk_3 (dk_at dksX0_swaps_1 18 rfl rfl)
theorem dX0_swaps_43 : decode cX0_swaps 43 = .ok (.ior, 1) := dk_128 (dk_at dksX0_swaps_1 19 rfl rfl)
theorem dX0_swaps_44 : decode cX0_swaps 44 = .ok (.istore_n 1, 1) := dk_60 (dk_at dksX0_swaps_1 20 rfl rfl)
theorem dX0_swaps_45 : decode cX0_swaps 45 = .ok (.iinc 2 1, 3) := dk_132 2 1 (dk_at dksX0_swaps_1 21 rfl rfl)
theorem dX0_swaps_48 : decode cX0_swaps 48 = .ok (.goto (-44), 3) := dk_167 255 212 (dk_at dksX0_swaps_2 0 rfl rfl)
theorem dX0_swaps_51 : decode cX0_swaps 51 = .ok (.iload_n 1, 1) := dk_27 (dk_at dksX0_swaps_2 3 rfl rfl)
theorem dX0_swaps_52 : decode cX0_swaps 52 = .ok (.ifCond .eq 118, 3) := dk_153 0 118 (dk_at dksX0_swaps_2 4 rfl rfl)
theorem dX0_swaps_55 : decode cX0_swaps 55 = .ok (.iconst 0, 1) := dk_3 (dk_at dksX0_swaps_2 7 rfl rfl)
theorem dX0_swaps_56 : decode cX0_swaps 56 = .ok (.istore_n 2, 1) := dk_61 (dk_at dksX0_swaps_2 8 rfl rfl)
theorem dX0_swaps_57 : decode cX0_swaps 57 = .ok (.iconst 0, 1) := dk_3 (dk_at dksX0_swaps_2 9 rfl rfl)
theorem dX0_swaps_58 : decode cX0_swaps 58 = .ok (.istore_n 3, 1) := dk_62 (dk_at dksX0_swaps_2 10 rfl rfl)
theorem dX0_swaps_59 : decode cX0_swaps 59 = .ok (.iload_n 3, 1) := dk_29 (dk_at dksX0_swaps_2 11 rfl rfl)
theorem dX0_swaps_60 : decode cX0_swaps 60 = .ok (.aload_n 0, 1) := dk_42 (dk_at dksX0_swaps_2 12 rfl rfl)
theorem dX0_swaps_61 : decode cX0_swaps 61 = .ok (.getfield 36, 3) := dk_180 0 36 (dk_at dksX0_swaps_2 13 rfl rfl)
theorem dX0_swaps_64 : decode cX0_swaps 64 = .ok (.getfield 192, 3) := dk_180 0 192 (dk_at dksX0_swaps_2 16 rfl rfl)
theorem dX0_swaps_67 : decode cX0_swaps 67 = .ok (.if_icmp .ge 33, 3) := dk_162 0 33 (dk_at dksX0_swaps_2 19 rfl rfl)
theorem dX0_swaps_70 : decode cX0_swaps 70 = .ok (.aload_n 0, 1) := dk_42 (dk_at dksX0_swaps_2 22 rfl rfl)
theorem dX0_swaps_71 : decode cX0_swaps 71 = .ok (.getfield 64, 3) := dk_180 0 64 (dk_at dksX0_swaps_3 0 rfl rfl)
theorem dX0_swaps_74 : decode cX0_swaps 74 = .ok (.iload_n 3, 1) := dk_29 (dk_at dksX0_swaps_3 3 rfl rfl)
theorem dX0_swaps_75 : decode cX0_swaps 75 = .ok (.iload_n 1, 1) := dk_27 (dk_at dksX0_swaps_3 4 rfl rfl)
theorem dX0_swaps_76 : decode cX0_swaps 76 = .ok (.iload_n 3, 1) := dk_29 (dk_at dksX0_swaps_3 5 rfl rfl)
theorem dX0_swaps_77 : decode cX0_swaps 77 = .ok (.invokestatic 202, 3) := dk_184 0 202 (dk_at dksX0_swaps_3 6 rfl rfl)
theorem dX0_swaps_80 : decode cX0_swaps 80 = .ok (.ifCond .eq 12, 3) := dk_153 0 12 (dk_at dksX0_swaps_3 9 rfl rfl)
theorem dX0_swaps_83 : decode cX0_swaps 83 = .ok (.aload_n 0, 1) := dk_42 (dk_at dksX0_swaps_3 12 rfl rfl)
theorem dX0_swaps_84 : decode cX0_swaps 84 = .ok (.iload_n 3, 1) := dk_29 (dk_at dksX0_swaps_3 13 rfl rfl)
theorem dX0_swaps_85 : decode cX0_swaps 85 = .ok (.iload_n 1, 1) := dk_27 (dk_at dksX0_swaps_3 14 rfl rfl)
theorem dX0_swaps_86 : decode cX0_swaps 86 = .ok (.invokevirtual 349, 3) := dk_182 1 93 (dk_at dksX0_swaps_3 15 rfl rfl)
theorem dX0_swaps_89 : decode cX0_swaps 89 = .ok (.goto 4, 3) := dk_167 0 4 (dk_at dksX0_swaps_3 18 rfl rfl)
theorem dX0_swaps_92 : decode cX0_swaps 92 = .ok (.iconst (-1), 1) := dk_2 (dk_at dksX0_swaps_3 21 rfl rfl)
theorem dX0_swaps_93 : decode cX0_swaps 93 = .ok (.iastore, 1) := dk_79 (dk_at dksX0_swaps_3 22 rfl rfl)
theorem dX0_swaps_94 : decode cX0_swaps 94 = .ok (.iinc 3 1, 3) := dk_132 3 1 (dk_at dksX0_swaps_4 0 rfl rfl)
theorem dX0_swaps_97 : decode cX0_swaps 97 = .ok (.goto (-38), 3) := dk_167 255 218 (dk_at dksX0_swaps_4 3 rfl rfl)
theorem dX0_swaps_100 : decode cX0_swaps 100 = .ok (.iconst 0, 1) := dk_3 (dk_at dksX0_swaps_4 6 rfl rfl)
theorem dX0_swaps_101 : decode cX0_swaps 101 = .ok (.istore_n 3, 1) := dk_62 (dk_at dksX0_swaps_4 7 rfl rfl)
theorem dX0_swaps_102 : decode cX0_swaps 102 = .ok (.iload_n 3, 1) := dk_29 (dk_at dksX0_swaps_4 8 rfl rfl)
theorem dX0_swaps_103 : decode cX0_swaps 103 = .ok (.aload_n 0, 1) := dk_42 (dk_at dksX0_swaps_4 9 rfl rfl)
theorem dX0_swaps_104 : decode cX0_swaps 104 = .ok (.getfield 36, 3) := dk_180 0 36 (dk_at dksX0_swaps_4 10 rfl rfl)
theorem dX0_swaps_107 : decode cX0_swaps 107 = .ok (.getfield 192, 3) := dk_180 0 192 (dk_at dksX0_swaps_4 13 rfl rfl)
theorem dX0_swaps_110 : decode cX0_swaps 110 = .ok (.if_icmp .ge 51, 3) := dk_162 0 51 (dk_at dksX0_swaps_4 16 rfl rfl)
theorem dX0_swaps_113 : decode cX0_swaps 113 = .ok (.iload_n 1, 1) := dk_27 (dk_at dksX0_swaps_4 19 rfl rfl)
theorem dX0_swaps_114 : decode cX0_swaps 114 = .ok (.iload_n 3, 1) := dk_29 (dk_at dksX0_swaps_4 20 rfl rfl)
theorem dX0_swaps_115 : decode cX0_swaps 115 = .ok (.invokestatic 202, 3) := dk_184 0 202 (dk_at dksX0_swaps_4 21 rfl rfl)
theorem dX0_swaps_118 : decode cX0_swaps 118 = .ok (.ifCond .eq 37, 3) := dk_153 0 37 (dk_at dksX0_swaps_5 0 rfl rfl)
theorem dX0_swaps_121 : decode cX0_swaps 121 = .ok (.aload_n 0, 1) := dk_42 (dk_at dksX0_swaps_5 3 rfl rfl)
theorem dX0_swaps_122 : decode cX0_swaps 122 = .ok (.iload_n 3, 1) := dk_29 (dk_at dksX0_swaps_5 4 rfl rfl)
theorem dX0_swaps_123 : decode cX0_swaps 123 = .ok (.invokevirtual 352, 3) := dk_182 1 96 (dk_at dksX0_swaps_5 5 rfl rfl)
theorem dX0_swaps_126 : decode cX0_swaps 126 = .ok (.ifCond .eq 29, 3) := dk_153 0 29 (dk_at dksX0_swaps_5 8 rfl rfl)
theorem dX0_swaps_129 : decode cX0_swaps 129 = .ok (.aload_n 0, 1) := dk_42 (dk_at dksX0_swaps_5 11 rfl rfl)
theorem dX0_swaps_130 : decode cX0_swaps 130 = .ok (.getfield 61, 3) := dk_180 0 61 (dk_at dksX0_swaps_5 12 rfl rfl)
theorem dX0_swaps_133 : decode cX0_swaps 133 = .ok (.iload_n 3, 1) := dk_29 (dk_at dksX0_swaps_5 15 rfl rfl)
theorem dX0_swaps_134 : decode cX0_swaps 134 = .ok (.aload_n 0, 1) := dk_42 (dk_at dksX0_swaps_5 16 rfl rfl)
theorem dX0_swaps_135 : decode cX0_swaps 135 = .ok (.getfield 36, 3) := dk_180 0 36 (dk_at dksX0_swaps_5 17 rfl rfl)
theorem dX0_swaps_138 : decode cX0_swaps 138 = .ok (.getfield 209, 3) := dk_180 0 209 (dk_at dksX0_swaps_5 20 rfl rfl)
theorem dX0_swaps_141 : decode cX0_swaps 141 = .ok (.aload_n 0, 1) := dk_42 (dk_at dksX0_swaps_5 23 rfl rfl)
theorem dX0_swaps_142 : decode cX0_swaps 142 = .ok (.getfield 64, 3) := dk_180 0 64 (dk_at dksX0_swaps_6 0 rfl rfl)
theorem dX0_swaps_145 : decode cX0_swaps 145 = .ok (.iload_n 3, 1) := dk_29 (dk_at dksX0_swaps_6 3 rfl rfl)
theorem dX0_swaps_146 : decode cX0_swaps 146 = .ok (.iaload, 1) := dk_46 (dk_at dksX0_swaps_6 4 rfl rfl)
theorem dX0_swaps_147 : decode cX0_swaps 147 = .ok (.iaload, 1) := dk_46 (dk_at dksX0_swaps_6 5 rfl rfl)
theorem dX0_swaps_148 : decode cX0_swaps 148 = .ok (.iastore, 1) := dk_79 (dk_at dksX0_swaps_6 6 rfl rfl)
theorem dX0_swaps_149 : decode cX0_swaps 149 = .ok (.iload_n 2, 1) := dk_28 (dk_at dksX0_swaps_6 7 rfl rfl)
theorem dX0_swaps_150 : decode cX0_swaps 150 = .ok (.iconst 1, 1) := dk_4 (dk_at dksX0_swaps_6 8 rfl rfl)
theorem dX0_swaps_151 : decode cX0_swaps 151 = .ok (.iload_n 3, 1) := dk_29 (dk_at dksX0_swaps_6 9 rfl rfl)
theorem dX0_swaps_152 : decode cX0_swaps 152 = .ok (.ishl, 1) := dk_120 (dk_at dksX0_swaps_6 10 rfl rfl)
theorem dX0_swaps_153 : decode cX0_swaps 153 = .ok (.ior, 1) := dk_128 (dk_at dksX0_swaps_6 11 rfl rfl)
theorem dX0_swaps_154 : decode cX0_swaps 154 = .ok (.istore_n 2, 1) := dk_61 (dk_at dksX0_swaps_6 12 rfl rfl)
theorem dX0_swaps_155 : decode cX0_swaps 155 = .ok (.iinc 3 1, 3) := dk_132 3 1 (dk_at dksX0_swaps_6 13 rfl rfl)
theorem dX0_swaps_158 : decode cX0_swaps 158 = .ok (.goto (-56), 3) := dk_167 255 200 (dk_at dksX0_swaps_6 16 rfl rfl)
theorem dX0_swaps_161 : decode cX0_swaps 161 = .ok (.iload_n 1, 1) := dk_27 (dk_at dksX0_swaps_6 19 rfl rfl)
theorem dX0_swaps_162 : decode cX0_swaps 162 = .ok (.iload_n 2, 1) := dk_28 (dk_at dksX0_swaps_6 20 rfl rfl)
theorem dX0_swaps_163 : decode cX0_swaps 163 = .ok (.iconst (-1), 1) := dk_2 (dk_at dksX0_swaps_6 21 rfl rfl)
theorem dX0_swaps_164 : decode cX0_swaps 164 = .ok (.ixor, 1) := dk_130 (dk_at dksX0_swaps_6 22 rfl rfl)
theorem dX0_swaps_165 : decode cX0_swaps 165 = .ok (.iand, 1) := dk_126 (dk_at dksX0_swaps_6 23 rfl rfl)
theorem dX0_swaps_166 : decode cX0_swaps 166 = .ok (.istore_n 1, 1) := dk_60 (dk_at dksX0_swaps_7 0 rfl rfl)
theorem dX0_swaps_167 : decode cX0_swaps 167 = .ok (.goto (-116), 3) := dk_167 255 140 (dk_at dksX0_swaps_7 1 rfl rfl)
theorem dX0_swaps_170 : decode cX0_swaps 170 = .ok (.return_, 1) := dk_177 (dk_at dksX0_swaps_7 4 rfl rfl)
abbrev cX0_wishOf : ByteArray := prog_1_method_71_code
def yX0_wishOf : MethodName := ⟨RX0, "wishOf", "(II)I"⟩
def dkwX0_wishOf_3 : List UInt8 := [160, 0, 7, 27, 167, 0, 4, 29, 172]
abbrev dktX0_wishOf_3 : List UInt8 := dkwX0_wishOf_3 ++ []
def dkwX0_wishOf_2 : List UInt8 := [153, 0, 13, 42, 21, 4, 28, 182, 1, 90, 167, 0, 4, 2, 62, 132, 4, 1, 167, 255, 213, 29, 2]
abbrev dktX0_wishOf_2 : List UInt8 := dkwX0_wishOf_2 ++ dktX0_wishOf_3
def dkwX0_wishOf_1 : List UInt8 := [16, 8, 162, 0, 42, 29, 2, 160, 0, 37, 42, 180, 0, 36, 27, 182, 1, 83, 21, 4, 184, 0, 202]
abbrev dktX0_wishOf_1 : List UInt8 := dkwX0_wishOf_1 ++ dktX0_wishOf_2
def dkwX0_wishOf_0 : List UInt8 := [42, 42, 180, 0, 36, 180, 0, 160, 27, 50, 180, 0, 241, 28, 182, 1, 90, 62, 3, 54, 4, 21, 4]
abbrev dktX0_wishOf_0 : List UInt8 := dkwX0_wishOf_0 ++ dktX0_wishOf_1
theorem dksX0_wishOf_0 : cX0_wishOf.data.toList.drop 0 = dktX0_wishOf_0 := by decide +kernel
theorem dksX0_wishOf_1 : cX0_wishOf.data.toList.drop 23 = dktX0_wishOf_1 := dk_seg dksX0_wishOf_0 23 rfl rfl
theorem dksX0_wishOf_2 : cX0_wishOf.data.toList.drop 46 = dktX0_wishOf_2 := dk_seg dksX0_wishOf_1 23 rfl rfl
theorem dksX0_wishOf_3 : cX0_wishOf.data.toList.drop 69 = dktX0_wishOf_3 := dk_seg dksX0_wishOf_2 23 rfl rfl
theorem dX0_wishOf_0 : decode cX0_wishOf 0 = .ok (.aload_n 0, 1) := dk_42 (dk_at dksX0_wishOf_0 0 rfl rfl)
theorem dX0_wishOf_1 : decode cX0_wishOf 1 = .ok (.aload_n 0, 1) := dk_42 (dk_at dksX0_wishOf_0 1 rfl rfl)
theorem dX0_wishOf_2 : decode cX0_wishOf 2 = .ok (.getfield 36, 3) := dk_180 0 36 (dk_at dksX0_wishOf_0 2 rfl rfl)
theorem dX0_wishOf_5 : decode cX0_wishOf 5 = .ok (.getfield 160, 3) := dk_180 0 160 (dk_at dksX0_wishOf_0 5 rfl rfl)
theorem dX0_wishOf_8 : decode cX0_wishOf 8 = .ok (.iload_n 1, 1) := dk_27 (dk_at dksX0_wishOf_0 8 rfl rfl)
theorem dX0_wishOf_9 : decode cX0_wishOf 9 = .ok (.aaload, 1) := dk_50 (dk_at dksX0_wishOf_0 9 rfl rfl)
theorem dX0_wishOf_10 : decode cX0_wishOf 10 = .ok (.getfield 241, 3) := dk_180 0 241 (dk_at dksX0_wishOf_0 10 rfl rfl)
theorem dX0_wishOf_13 : decode cX0_wishOf 13 = .ok (.iload_n 2, 1) := dk_28 (dk_at dksX0_wishOf_0 13 rfl rfl)
theorem dX0_wishOf_14 : decode cX0_wishOf 14 = .ok (.invokevirtual 346, 3) := dk_182 1 90 (dk_at dksX0_wishOf_0 14 rfl rfl)
theorem dX0_wishOf_17 : decode cX0_wishOf 17 = .ok (.istore_n 3, 1) := dk_62 (dk_at dksX0_wishOf_0 17 rfl rfl)
theorem dX0_wishOf_18 : decode cX0_wishOf 18 = .ok (.iconst 0, 1) := dk_3 (dk_at dksX0_wishOf_0 18 rfl rfl)
theorem dX0_wishOf_19 : decode cX0_wishOf 19 = .ok (.istore 4, 2) := dk_54 4 (dk_at dksX0_wishOf_0 19 rfl rfl)
theorem dX0_wishOf_21 : decode cX0_wishOf 21 = .ok (.iload 4, 2) := dk_21 4 (dk_at dksX0_wishOf_0 21 rfl rfl)
theorem dX0_wishOf_23 : decode cX0_wishOf 23 = .ok (.bipush 8, 2) := dk_16 8 (dk_at dksX0_wishOf_1 0 rfl rfl)
theorem dX0_wishOf_25 : decode cX0_wishOf 25 = .ok (.if_icmp .ge 42, 3) := dk_162 0 42 (dk_at dksX0_wishOf_1 2 rfl rfl)
theorem dX0_wishOf_28 : decode cX0_wishOf 28 = .ok (.iload_n 3, 1) := dk_29 (dk_at dksX0_wishOf_1 5 rfl rfl)
theorem dX0_wishOf_29 : decode cX0_wishOf 29 = .ok (.iconst (-1), 1) := dk_2 (dk_at dksX0_wishOf_1 6 rfl rfl)
theorem dX0_wishOf_30 : decode cX0_wishOf 30 = .ok (.if_icmp .ne 37, 3) := dk_160 0 37 (dk_at dksX0_wishOf_1 7 rfl rfl)
theorem dX0_wishOf_33 : decode cX0_wishOf 33 = .ok (.aload_n 0, 1) := dk_42 (dk_at dksX0_wishOf_1 10 rfl rfl)
theorem dX0_wishOf_34 : decode cX0_wishOf 34 = .ok (.getfield 36, 3) := dk_180 0 36 (dk_at dksX0_wishOf_1 11 rfl rfl)
theorem dX0_wishOf_37 : decode cX0_wishOf 37 = .ok (.iload_n 1, 1) := dk_27 (dk_at dksX0_wishOf_1 14 rfl rfl)
theorem dX0_wishOf_38 : decode cX0_wishOf 38 = .ok (.invokevirtual 339, 3) := dk_182 1 83 (dk_at dksX0_wishOf_1 15 rfl rfl)
theorem dX0_wishOf_41 : decode cX0_wishOf 41 = .ok (.iload 4, 2) := dk_21 4 (dk_at dksX0_wishOf_1 18 rfl rfl)
theorem dX0_wishOf_43 : decode cX0_wishOf 43 = .ok (.invokestatic 202, 3) := dk_184 0 202 (dk_at dksX0_wishOf_1 20 rfl rfl)
theorem dX0_wishOf_46 : decode cX0_wishOf 46 = .ok (.ifCond .eq 13, 3) := dk_153 0 13 (dk_at dksX0_wishOf_2 0 rfl rfl)
theorem dX0_wishOf_49 : decode cX0_wishOf 49 = .ok (.aload_n 0, 1) := dk_42 (dk_at dksX0_wishOf_2 3 rfl rfl)
theorem dX0_wishOf_50 : decode cX0_wishOf 50 = .ok (.iload 4, 2) := dk_21 4 (dk_at dksX0_wishOf_2 4 rfl rfl)
theorem dX0_wishOf_52 : decode cX0_wishOf 52 = .ok (.iload_n 2, 1) := dk_28 (dk_at dksX0_wishOf_2 6 rfl rfl)
theorem dX0_wishOf_53 : decode cX0_wishOf 53 = .ok (.invokevirtual 346, 3) := dk_182 1 90 (dk_at dksX0_wishOf_2 7 rfl rfl)
theorem dX0_wishOf_56 : decode cX0_wishOf 56 = .ok (.goto 4, 3) := dk_167 0 4 (dk_at dksX0_wishOf_2 10 rfl rfl)
theorem dX0_wishOf_59 : decode cX0_wishOf 59 = .ok (.iconst (-1), 1) := dk_2 (dk_at dksX0_wishOf_2 13 rfl rfl)
theorem dX0_wishOf_60 : decode cX0_wishOf 60 = .ok (.istore_n 3, 1) := dk_62 (dk_at dksX0_wishOf_2 14 rfl rfl)
theorem dX0_wishOf_61 : decode cX0_wishOf 61 = .ok (.iinc 4 1, 3) := dk_132 4 1 (dk_at dksX0_wishOf_2 15 rfl rfl)
theorem dX0_wishOf_64 : decode cX0_wishOf 64 = .ok (.goto (-43), 3) := dk_167 255 213 (dk_at dksX0_wishOf_2 18 rfl rfl)
theorem dX0_wishOf_67 : decode cX0_wishOf 67 = .ok (.iload_n 3, 1) := dk_29 (dk_at dksX0_wishOf_2 21 rfl rfl)
theorem dX0_wishOf_68 : decode cX0_wishOf 68 = .ok (.iconst (-1), 1) := dk_2 (dk_at dksX0_wishOf_2 22 rfl rfl)
theorem dX0_wishOf_69 : decode cX0_wishOf 69 = .ok (.if_icmp .ne 7, 3) := dk_160 0 7 (dk_at dksX0_wishOf_3 0 rfl rfl)
theorem dX0_wishOf_72 : decode cX0_wishOf 72 = .ok (.iload_n 1, 1) := dk_27 (dk_at dksX0_wishOf_3 3 rfl rfl)
theorem dX0_wishOf_73 : decode cX0_wishOf 73 = .ok (.goto 4, 3) := dk_167 0 4 (dk_at dksX0_wishOf_3 4 rfl rfl)
theorem dX0_wishOf_76 : decode cX0_wishOf 76 = .ok (.iload_n 3, 1) := dk_29 (dk_at dksX0_wishOf_3 7 rfl rfl)
theorem dX0_wishOf_77 : decode cX0_wishOf 77 = .ok (.ireturn, 1) := dk_172 (dk_at dksX0_wishOf_3 8 rfl rfl)
abbrev cX0_bringer : ByteArray := prog_1_method_72_code
def yX0_bringer : MethodName := ⟨RX0, "bringer", "(II)I"⟩
def dkwX0_bringer_1 : List UInt8 := [180, 0, 36, 180, 0, 209, 29, 46, 27, 160, 0, 5, 29, 172, 132, 3, 1, 167, 255, 219, 2, 172]
abbrev dktX0_bringer_1 : List UInt8 := dkwX0_bringer_1 ++ []
def dkwX0_bringer_0 : List UInt8 := [3, 62, 29, 42, 180, 0, 36, 180, 0, 192, 162, 0, 32, 28, 29, 184, 0, 202, 153, 0, 18, 42]
abbrev dktX0_bringer_0 : List UInt8 := dkwX0_bringer_0 ++ dktX0_bringer_1
theorem dksX0_bringer_0 : cX0_bringer.data.toList.drop 0 = dktX0_bringer_0 := by decide +kernel
theorem dksX0_bringer_1 : cX0_bringer.data.toList.drop 22 = dktX0_bringer_1 := dk_seg dksX0_bringer_0 22 rfl rfl
theorem dX0_bringer_0 : decode cX0_bringer 0 = .ok (.iconst 0, 1) := dk_3 (dk_at dksX0_bringer_0 0 rfl rfl)
theorem dX0_bringer_1 : decode cX0_bringer 1 = .ok (.istore_n 3, 1) := dk_62 (dk_at dksX0_bringer_0 1 rfl rfl)
theorem dX0_bringer_2 : decode cX0_bringer 2 = .ok (.iload_n 3, 1) := dk_29 (dk_at dksX0_bringer_0 2 rfl rfl)
theorem dX0_bringer_3 : decode cX0_bringer 3 = .ok (.aload_n 0, 1) := dk_42 (dk_at dksX0_bringer_0 3 rfl rfl)
theorem dX0_bringer_4 : decode cX0_bringer 4 = .ok (.getfield 36, 3) := dk_180 0 36 (dk_at dksX0_bringer_0 4 rfl rfl)
theorem dX0_bringer_7 : decode cX0_bringer 7 = .ok (.getfield 192, 3) := dk_180 0 192 (dk_at dksX0_bringer_0 7 rfl rfl)
theorem dX0_bringer_10 : decode cX0_bringer 10 = .ok (.if_icmp .ge 32, 3) := dk_162 0 32 (dk_at dksX0_bringer_0 10 rfl rfl)
theorem dX0_bringer_13 : decode cX0_bringer 13 = .ok (.iload_n 2, 1) := dk_28 (dk_at dksX0_bringer_0 13 rfl rfl)
theorem dX0_bringer_14 : decode cX0_bringer 14 = .ok (.iload_n 3, 1) := dk_29 (dk_at dksX0_bringer_0 14 rfl rfl)
theorem dX0_bringer_15 : decode cX0_bringer 15 = .ok (.invokestatic 202, 3) := dk_184 0 202 (dk_at dksX0_bringer_0 15 rfl rfl)
theorem dX0_bringer_18 : decode cX0_bringer 18 = .ok (.ifCond .eq 18, 3) := dk_153 0 18 (dk_at dksX0_bringer_0 18 rfl rfl)
theorem dX0_bringer_21 : decode cX0_bringer 21 = .ok (.aload_n 0, 1) := dk_42 (dk_at dksX0_bringer_0 21 rfl rfl)
theorem dX0_bringer_22 : decode cX0_bringer 22 = .ok (.getfield 36, 3) := dk_180 0 36 (dk_at dksX0_bringer_1 0 rfl rfl)
theorem dX0_bringer_25 : decode cX0_bringer 25 = .ok (.getfield 209, 3) := dk_180 0 209 (dk_at dksX0_bringer_1 3 rfl rfl)
theorem dX0_bringer_28 : decode cX0_bringer 28 = .ok (.iload_n 3, 1) := dk_29 (dk_at dksX0_bringer_1 6 rfl rfl)
theorem dX0_bringer_29 : decode cX0_bringer 29 = .ok (.iaload, 1) := dk_46 (dk_at dksX0_bringer_1 7 rfl rfl)
theorem dX0_bringer_30 : decode cX0_bringer 30 = .ok (.iload_n 1, 1) := dk_27 (dk_at dksX0_bringer_1 8 rfl rfl)
theorem dX0_bringer_31 : decode cX0_bringer 31 = .ok (.if_icmp .ne 5, 3) := dk_160 0 5 (dk_at dksX0_bringer_1 9 rfl rfl)
theorem dX0_bringer_34 : decode cX0_bringer 34 = .ok (.iload_n 3, 1) := dk_29 (dk_at dksX0_bringer_1 12 rfl rfl)
theorem dX0_bringer_35 : decode cX0_bringer 35 = .ok (.ireturn, 1) := dk_172 (dk_at dksX0_bringer_1 13 rfl rfl)
theorem dX0_bringer_36 : decode cX0_bringer 36 = .ok (.iinc 3 1, 3) := dk_132 3 1 (dk_at dksX0_bringer_1 14 rfl rfl)
theorem dX0_bringer_39 : decode cX0_bringer 39 = .ok (.goto (-37), 3) := dk_167 255 219 (dk_at dksX0_bringer_1 17 rfl rfl)
theorem dX0_bringer_42 : decode cX0_bringer 42 = .ok (.iconst (-1), 1) := dk_2 (dk_at dksX0_bringer_1 20 rfl rfl)
theorem dX0_bringer_43 : decode cX0_bringer 43 = .ok (.ireturn, 1) := dk_172 (dk_at dksX0_bringer_1 21 rfl rfl)
abbrev cX0_isRing : ByteArray := prog_1_method_73_code
def yX0_isRing : MethodName := ⟨RX0, "isRing", "(I)Z"⟩
def dkwX0_isRing_1 : List UInt8 := [28, 46, 61, 132, 3, 1, 167, 255, 235, 28, 27, 160, 0, 7, 4, 167, 0, 4, 3, 172]
abbrev dktX0_isRing_1 : List UInt8 := dkwX0_isRing_1 ++ []
def dkwX0_isRing_0 : List UInt8 := [42, 180, 0, 64, 27, 46, 61, 3, 62, 29, 16, 8, 162, 0, 21, 28, 27, 159, 0, 16, 42, 180, 0, 64]
abbrev dktX0_isRing_0 : List UInt8 := dkwX0_isRing_0 ++ dktX0_isRing_1
theorem dksX0_isRing_0 : cX0_isRing.data.toList.drop 0 = dktX0_isRing_0 := by decide +kernel
theorem dksX0_isRing_1 : cX0_isRing.data.toList.drop 24 = dktX0_isRing_1 := dk_seg dksX0_isRing_0 24 rfl rfl
theorem dX0_isRing_0 : decode cX0_isRing 0 = .ok (.aload_n 0, 1) := dk_42 (dk_at dksX0_isRing_0 0 rfl rfl)
theorem dX0_isRing_1 : decode cX0_isRing 1 = .ok (.getfield 64, 3) := dk_180 0 64 (dk_at dksX0_isRing_0 1 rfl rfl)
theorem dX0_isRing_4 : decode cX0_isRing 4 = .ok (.iload_n 1, 1) := dk_27 (dk_at dksX0_isRing_0 4 rfl rfl)
theorem dX0_isRing_5 : decode cX0_isRing 5 = .ok (.iaload, 1) := dk_46 (dk_at dksX0_isRing_0 5 rfl rfl)
theorem dX0_isRing_6 : decode cX0_isRing 6 = .ok (.istore_n 2, 1) := dk_61 (dk_at dksX0_isRing_0 6 rfl rfl)
theorem dX0_isRing_7 : decode cX0_isRing 7 = .ok (.iconst 0, 1) := dk_3 (dk_at dksX0_isRing_0 7 rfl rfl)
theorem dX0_isRing_8 : decode cX0_isRing 8 = .ok (.istore_n 3, 1) := dk_62 (dk_at dksX0_isRing_0 8 rfl rfl)
theorem dX0_isRing_9 : decode cX0_isRing 9 = .ok (.iload_n 3, 1) := dk_29 (dk_at dksX0_isRing_0 9 rfl rfl)
theorem dX0_isRing_10 : decode cX0_isRing 10 = .ok (.bipush 8, 2) := dk_16 8 (dk_at dksX0_isRing_0 10 rfl rfl)
theorem dX0_isRing_12 : decode cX0_isRing 12 = .ok (.if_icmp .ge 21, 3) := dk_162 0 21 (dk_at dksX0_isRing_0 12 rfl rfl)
theorem dX0_isRing_15 : decode cX0_isRing 15 = .ok (.iload_n 2, 1) := dk_28 (dk_at dksX0_isRing_0 15 rfl rfl)
theorem dX0_isRing_16 : decode cX0_isRing 16 = .ok (.iload_n 1, 1) := dk_27 (dk_at dksX0_isRing_0 16 rfl rfl)
theorem dX0_isRing_17 : decode cX0_isRing 17 = .ok (.if_icmp .eq 16, 3) := dk_159 0 16 (dk_at dksX0_isRing_0 17 rfl rfl)
theorem dX0_isRing_20 : decode cX0_isRing 20 = .ok (.aload_n 0, 1) := dk_42 (dk_at dksX0_isRing_0 20 rfl rfl)
theorem dX0_isRing_21 : decode cX0_isRing 21 = .ok (.getfield 64, 3) := dk_180 0 64 (dk_at dksX0_isRing_0 21 rfl rfl)
theorem dX0_isRing_24 : decode cX0_isRing 24 = .ok (.iload_n 2, 1) := dk_28 (dk_at dksX0_isRing_1 0 rfl rfl)
theorem dX0_isRing_25 : decode cX0_isRing 25 = .ok (.iaload, 1) := dk_46 (dk_at dksX0_isRing_1 1 rfl rfl)
theorem dX0_isRing_26 : decode cX0_isRing 26 = .ok (.istore_n 2, 1) := dk_61 (dk_at dksX0_isRing_1 2 rfl rfl)
theorem dX0_isRing_27 : decode cX0_isRing 27 = .ok (.iinc 3 1, 3) := dk_132 3 1 (dk_at dksX0_isRing_1 3 rfl rfl)
theorem dX0_isRing_30 : decode cX0_isRing 30 = .ok (.goto (-21), 3) := dk_167 255 235 (dk_at dksX0_isRing_1 6 rfl rfl)
theorem dX0_isRing_33 : decode cX0_isRing 33 = .ok (.iload_n 2, 1) := dk_28 (dk_at dksX0_isRing_1 9 rfl rfl)
theorem dX0_isRing_34 : decode cX0_isRing 34 = .ok (.iload_n 1, 1) := dk_27 (dk_at dksX0_isRing_1 10 rfl rfl)
theorem dX0_isRing_35 : decode cX0_isRing 35 = .ok (.if_icmp .ne 7, 3) := dk_160 0 7 (dk_at dksX0_isRing_1 11 rfl rfl)
theorem dX0_isRing_38 : decode cX0_isRing 38 = .ok (.iconst 1, 1) := dk_4 (dk_at dksX0_isRing_1 14 rfl rfl)
theorem dX0_isRing_39 : decode cX0_isRing 39 = .ok (.goto 4, 3) := dk_167 0 4 (dk_at dksX0_isRing_1 15 rfl rfl)
theorem dX0_isRing_42 : decode cX0_isRing 42 = .ok (.iconst 0, 1) := dk_3 (dk_at dksX0_isRing_1 18 rfl rfl)
theorem dX0_isRing_43 : decode cX0_isRing 43 = .ok (.ireturn, 1) := dk_172 (dk_at dksX0_isRing_1 19 rfl rfl)
abbrev cX0_swapped : ByteArray := prog_1_method_77_code
def yX0_swapped : MethodName := ⟨RX0, "swapped", "()I"⟩
def dkwX0_swapped_0 : List UInt8 := [42, 182, 1, 99, 42, 182, 1, 102, 172]
abbrev dktX0_swapped_0 : List UInt8 := dkwX0_swapped_0 ++ []
theorem dksX0_swapped_0 : cX0_swapped.data.toList.drop 0 = dktX0_swapped_0 := by decide +kernel
theorem dX0_swapped_0 : decode cX0_swapped 0 = .ok (.aload_n 0, 1) := dk_42 (dk_at dksX0_swapped_0 0 rfl rfl)
theorem dX0_swapped_1 : decode cX0_swapped 1 = .ok (.invokevirtual 355, 3) := dk_182 1 99 (dk_at dksX0_swapped_0 1 rfl rfl)
theorem dX0_swapped_4 : decode cX0_swapped 4 = .ok (.aload_n 0, 1) := dk_42 (dk_at dksX0_swapped_0 4 rfl rfl)
theorem dX0_swapped_5 : decode cX0_swapped 5 = .ok (.invokevirtual 358, 3) := dk_182 1 102 (dk_at dksX0_swapped_0 5 rfl rfl)
theorem dX0_swapped_8 : decode cX0_swapped 8 = .ok (.ireturn, 1) := dk_172 (dk_at dksX0_swapped_0 8 rfl rfl)
abbrev cX0_manySwapped : ByteArray := prog_1_method_75_code
def yX0_manySwapped : MethodName := ⟨RX0, "manySwapped", "()I"⟩
def dkwX0_manySwapped_2 : List UInt8 := [27, 172]
abbrev dktX0_manySwapped_2 : List UInt8 := dkwX0_manySwapped_2 ++ []
def dkwX0_manySwapped_1 : List UInt8 := [180, 0, 36, 180, 0, 209, 28, 46, 159, 0, 7, 4, 167, 0, 4, 3, 96, 60, 132, 2, 1, 167, 255, 216]
abbrev dktX0_manySwapped_1 : List UInt8 := dkwX0_manySwapped_1 ++ dktX0_manySwapped_2
def dkwX0_manySwapped_0 : List UInt8 := [3, 60, 3, 61, 28, 42, 180, 0, 36, 180, 0, 192, 162, 0, 35, 27, 42, 180, 0, 61, 28, 46, 42]
abbrev dktX0_manySwapped_0 : List UInt8 := dkwX0_manySwapped_0 ++ dktX0_manySwapped_1
theorem dksX0_manySwapped_0 : cX0_manySwapped.data.toList.drop 0 = dktX0_manySwapped_0 := by decide +kernel
theorem dksX0_manySwapped_1 : cX0_manySwapped.data.toList.drop 23 = dktX0_manySwapped_1 := dk_seg dksX0_manySwapped_0 23 rfl rfl
theorem dksX0_manySwapped_2 : cX0_manySwapped.data.toList.drop 47 = dktX0_manySwapped_2 := dk_seg dksX0_manySwapped_1 24 rfl rfl
theorem dX0_manySwapped_0 : decode cX0_manySwapped 0 = .ok (.iconst 0, 1) := dk_3 (dk_at dksX0_manySwapped_0 0 rfl rfl)
theorem dX0_manySwapped_1 : decode cX0_manySwapped 1 = .ok (.istore_n 1, 1) := dk_60 (dk_at dksX0_manySwapped_0 1 rfl rfl)
theorem dX0_manySwapped_2 : decode cX0_manySwapped 2 = .ok (.iconst 0, 1) := dk_3 (dk_at dksX0_manySwapped_0 2 rfl rfl)
theorem dX0_manySwapped_3 : decode cX0_manySwapped 3 = .ok (.istore_n 2, 1) := dk_61 (dk_at dksX0_manySwapped_0 3 rfl rfl)
theorem dX0_manySwapped_4 : decode cX0_manySwapped 4 = .ok (.iload_n 2, 1) := dk_28 (dk_at dksX0_manySwapped_0 4 rfl rfl)
theorem dX0_manySwapped_5 : decode cX0_manySwapped 5 = .ok (.aload_n 0, 1) := dk_42 (dk_at dksX0_manySwapped_0 5 rfl rfl)
theorem dX0_manySwapped_6 : decode cX0_manySwapped 6 = .ok (.getfield 36, 3) := dk_180 0 36 (dk_at dksX0_manySwapped_0 6 rfl rfl)
theorem dX0_manySwapped_9 : decode cX0_manySwapped 9 = .ok (.getfield 192, 3) := dk_180 0 192 (dk_at dksX0_manySwapped_0 9 rfl rfl)
theorem dX0_manySwapped_12 : decode cX0_manySwapped 12 = .ok (.if_icmp .ge 35, 3) := dk_162 0 35 (dk_at dksX0_manySwapped_0 12 rfl rfl)
theorem dX0_manySwapped_15 : decode cX0_manySwapped 15 = .ok (.iload_n 1, 1) := dk_27 (dk_at dksX0_manySwapped_0 15 rfl rfl)
theorem dX0_manySwapped_16 : decode cX0_manySwapped 16 = .ok (.aload_n 0, 1) := dk_42 (dk_at dksX0_manySwapped_0 16 rfl rfl)
theorem dX0_manySwapped_17 : decode cX0_manySwapped 17 = .ok (.getfield 61, 3) := dk_180 0 61 (dk_at dksX0_manySwapped_0 17 rfl rfl)
theorem dX0_manySwapped_20 : decode cX0_manySwapped 20 = .ok (.iload_n 2, 1) := dk_28 (dk_at dksX0_manySwapped_0 20 rfl rfl)
theorem dX0_manySwapped_21 : decode cX0_manySwapped 21 = .ok (.iaload, 1) := dk_46 (dk_at dksX0_manySwapped_0 21 rfl rfl)
theorem dX0_manySwapped_22 : decode cX0_manySwapped 22 = .ok (.aload_n 0, 1) := dk_42 (dk_at dksX0_manySwapped_0 22 rfl rfl)
theorem dX0_manySwapped_23 : decode cX0_manySwapped 23 = .ok (.getfield 36, 3) := dk_180 0 36 (dk_at dksX0_manySwapped_1 0 rfl rfl)
theorem dX0_manySwapped_26 : decode cX0_manySwapped 26 = .ok (.getfield 209, 3) := dk_180 0 209 (dk_at dksX0_manySwapped_1 3 rfl rfl)
theorem dX0_manySwapped_29 : decode cX0_manySwapped 29 = .ok (.iload_n 2, 1) := dk_28 (dk_at dksX0_manySwapped_1 6 rfl rfl)
theorem dX0_manySwapped_30 : decode cX0_manySwapped 30 = .ok (.iaload, 1) := dk_46 (dk_at dksX0_manySwapped_1 7 rfl rfl)
theorem dX0_manySwapped_31 : decode cX0_manySwapped 31 = .ok (.if_icmp .eq 7, 3) := dk_159 0 7 (dk_at dksX0_manySwapped_1 8 rfl rfl)
theorem dX0_manySwapped_34 : decode cX0_manySwapped 34 = .ok (.iconst 1, 1) := dk_4 (dk_at dksX0_manySwapped_1 11 rfl rfl)
theorem dX0_manySwapped_35 : decode cX0_manySwapped 35 = .ok (.goto 4, 3) := dk_167 0 4 (dk_at dksX0_manySwapped_1 12 rfl rfl)
theorem dX0_manySwapped_38 : decode cX0_manySwapped 38 = .ok (.iconst 0, 1) := dk_3 (dk_at dksX0_manySwapped_1 15 rfl rfl)
theorem dX0_manySwapped_39 : decode cX0_manySwapped 39 = .ok (.iadd, 1) := dk_96 (dk_at dksX0_manySwapped_1 16 rfl rfl)
theorem dX0_manySwapped_40 : decode cX0_manySwapped 40 = .ok (.istore_n 1, 1) := dk_60 (dk_at dksX0_manySwapped_1 17 rfl rfl)
theorem dX0_manySwapped_41 : decode cX0_manySwapped 41 = .ok (.iinc 2 1, 3) := dk_132 2 1 (dk_at dksX0_manySwapped_1 18 rfl rfl)
theorem dX0_manySwapped_44 : decode cX0_manySwapped 44 = .ok (.goto (-40), 3) := dk_167 255 216 (dk_at dksX0_manySwapped_1 21 rfl rfl)
theorem dX0_manySwapped_47 : decode cX0_manySwapped 47 = .ok (.iload_n 1, 1) := dk_27 (dk_at dksX0_manySwapped_2 0 rfl rfl)
theorem dX0_manySwapped_48 : decode cX0_manySwapped 48 = .ok (.ireturn, 1) := dk_172 (dk_at dksX0_manySwapped_2 1 rfl rfl)
abbrev cX0_judge : ByteArray := prog_1_method_81_code
def yX0_judge : MethodName := ⟨RX0, "judge", "(II)I"⟩
def dkwX0_judge_0 : List UInt8 := [42, 42, 27, 28, 182, 1, 115, 182, 1, 119, 172, 78, 42, 45, 180, 0, 132, 182, 0, 105, 172]
abbrev dktX0_judge_0 : List UInt8 := dkwX0_judge_0 ++ []
theorem dksX0_judge_0 : cX0_judge.data.toList.drop 0 = dktX0_judge_0 := by decide +kernel
theorem dX0_judge_0 : decode cX0_judge 0 = .ok (.aload_n 0, 1) := dk_42 (dk_at dksX0_judge_0 0 rfl rfl)
theorem dX0_judge_1 : decode cX0_judge 1 = .ok (.aload_n 0, 1) := dk_42 (dk_at dksX0_judge_0 1 rfl rfl)
theorem dX0_judge_2 : decode cX0_judge 2 = .ok (.iload_n 1, 1) := dk_27 (dk_at dksX0_judge_0 2 rfl rfl)
theorem dX0_judge_3 : decode cX0_judge 3 = .ok (.iload_n 2, 1) := dk_28 (dk_at dksX0_judge_0 3 rfl rfl)
theorem dX0_judge_4 : decode cX0_judge 4 = .ok (.invokevirtual 371, 3) := dk_182 1 115 (dk_at dksX0_judge_0 4 rfl rfl)
theorem dX0_judge_7 : decode cX0_judge 7 = .ok (.invokevirtual 375, 3) := dk_182 1 119 (dk_at dksX0_judge_0 7 rfl rfl)
theorem dX0_judge_10 : decode cX0_judge 10 = .ok (.ireturn, 1) := dk_172 (dk_at dksX0_judge_0 10 rfl rfl)
theorem dX0_judge_11 : decode cX0_judge 11 = .ok (.astore_n 3, 1) := dk_78 (dk_at dksX0_judge_0 11 rfl rfl)
theorem dX0_judge_12 : decode cX0_judge 12 = .ok (.aload_n 0, 1) := dk_42 (dk_at dksX0_judge_0 12 rfl rfl)
theorem dX0_judge_13 : decode cX0_judge 13 = .ok (.aload_n 3, 1) := dk_45 (dk_at dksX0_judge_0 13 rfl rfl)
theorem dX0_judge_14 : decode cX0_judge 14 = .ok (.getfield 132, 3) := dk_180 0 132 (dk_at dksX0_judge_0 14 rfl rfl)
theorem dX0_judge_17 : decode cX0_judge 17 = .ok (.invokevirtual 105, 3) := dk_182 0 105 (dk_at dksX0_judge_0 17 rfl rfl)
theorem dX0_judge_20 : decode cX0_judge 20 = .ok (.ireturn, 1) := dk_172 (dk_at dksX0_judge_0 20 rfl rfl)
abbrev cX0_toldIn : ByteArray := prog_1_method_78_code
def yX0_toldIn : MethodName := ⟨RX0, "toldIn", "(II)[J"⟩
def dkwX0_toldIn_3 : List UInt8 := [58, 5, 187, 0, 119, 89, 16, 254, 183, 0, 121, 191, 25, 4, 176]
abbrev dktX0_toldIn_3 : List UInt8 := dkwX0_toldIn_3 ++ []
def dkwX0_toldIn_2 : List UInt8 := [190, 162, 0, 20, 25, 4, 21, 5, 45, 21, 5, 184, 0, 150, 80, 132, 5, 1, 167, 255, 234, 167, 0, 15]
abbrev dktX0_toldIn_2 : List UInt8 := dkwX0_toldIn_2 ++ dktX0_toldIn_3
def dkwX0_toldIn_1 : List UInt8 := [183, 0, 121, 191, 42, 27, 182, 0, 124, 78, 5, 28, 104, 188, 11, 58, 4, 3, 54, 5, 21, 5, 25, 4]
abbrev dktX0_toldIn_1 : List UInt8 := dkwX0_toldIn_1 ++ dktX0_toldIn_2
def dkwX0_toldIn_0 : List UInt8 := [27, 184, 0, 101, 153, 0, 13, 28, 3, 16, 20, 184, 0, 3, 154, 0, 13, 187, 0, 119, 89, 16, 254]
abbrev dktX0_toldIn_0 : List UInt8 := dkwX0_toldIn_0 ++ dktX0_toldIn_1
theorem dksX0_toldIn_0 : cX0_toldIn.data.toList.drop 0 = dktX0_toldIn_0 := by decide +kernel
theorem dksX0_toldIn_1 : cX0_toldIn.data.toList.drop 23 = dktX0_toldIn_1 := dk_seg dksX0_toldIn_0 23 rfl rfl
theorem dksX0_toldIn_2 : cX0_toldIn.data.toList.drop 47 = dktX0_toldIn_2 := dk_seg dksX0_toldIn_1 24 rfl rfl
theorem dksX0_toldIn_3 : cX0_toldIn.data.toList.drop 71 = dktX0_toldIn_3 := dk_seg dksX0_toldIn_2 24 rfl rfl
theorem dX0_toldIn_0 : decode cX0_toldIn 0 = .ok (.iload_n 1, 1) := dk_27 (dk_at dksX0_toldIn_0 0 rfl rfl)
theorem dX0_toldIn_1 : decode cX0_toldIn 1 = .ok (.invokestatic 101, 3) := dk_184 0 101 (dk_at dksX0_toldIn_0 1 rfl rfl)
theorem dX0_toldIn_4 : decode cX0_toldIn 4 = .ok (.ifCond .eq 13, 3) := dk_153 0 13 (dk_at dksX0_toldIn_0 4 rfl rfl)
theorem dX0_toldIn_7 : decode cX0_toldIn 7 = .ok (.iload_n 2, 1) := dk_28 (dk_at dksX0_toldIn_0 7 rfl rfl)
theorem dX0_toldIn_8 : decode cX0_toldIn 8 = .ok (.iconst 0, 1) := dk_3 (dk_at dksX0_toldIn_0 8 rfl rfl)
theorem dX0_toldIn_9 : decode cX0_toldIn 9 = .ok (.bipush 20, 2) := dk_16 20 (dk_at dksX0_toldIn_0 9 rfl rfl)
theorem dX0_toldIn_11 : decode cX0_toldIn 11 = .ok (.invokestatic 3, 3) := dk_184 0 3 (dk_at dksX0_toldIn_0 11 rfl rfl)
theorem dX0_toldIn_14 : decode cX0_toldIn 14 = .ok (.ifCond .ne 13, 3) := dk_154 0 13 (dk_at dksX0_toldIn_0 14 rfl rfl)
theorem dX0_toldIn_17 : decode cX0_toldIn 17 = .ok (.new 119, 3) := dk_187 0 119 (dk_at dksX0_toldIn_0 17 rfl rfl)
theorem dX0_toldIn_20 : decode cX0_toldIn 20 = .ok (.dup, 1) := dk_89 (dk_at dksX0_toldIn_0 20 rfl rfl)
theorem dX0_toldIn_21 : decode cX0_toldIn 21 = .ok (.bipush (-2), 2) := dk_16 254 (dk_at dksX0_toldIn_0 21 rfl rfl)
theorem dX0_toldIn_23 : decode cX0_toldIn 23 = .ok (.invokespecial 121, 3) := dk_183 0 121 (dk_at dksX0_toldIn_1 0 rfl rfl)
theorem dX0_toldIn_26 : decode cX0_toldIn 26 = .ok (.athrow, 1) := dk_191 (dk_at dksX0_toldIn_1 3 rfl rfl)
theorem dX0_toldIn_27 : decode cX0_toldIn 27 = .ok (.aload_n 0, 1) := dk_42 (dk_at dksX0_toldIn_1 4 rfl rfl)
theorem dX0_toldIn_28 : decode cX0_toldIn 28 = .ok (.iload_n 1, 1) := dk_27 (dk_at dksX0_toldIn_1 5 rfl rfl)
theorem dX0_toldIn_29 : decode cX0_toldIn 29 = .ok (.invokevirtual 124, 3) := dk_182 0 124 (dk_at dksX0_toldIn_1 6 rfl rfl)
theorem dX0_toldIn_32 : decode cX0_toldIn 32 = .ok (.astore_n 3, 1) := dk_78 (dk_at dksX0_toldIn_1 9 rfl rfl)
theorem dX0_toldIn_33 : decode cX0_toldIn 33 = .ok (.iconst 2, 1) := dk_5 (dk_at dksX0_toldIn_1 10 rfl rfl)
theorem dX0_toldIn_34 : decode cX0_toldIn 34 = .ok (.iload_n 2, 1) := dk_28 (dk_at dksX0_toldIn_1 11 rfl rfl)
theorem dX0_toldIn_35 : decode cX0_toldIn 35 = .ok (.imul, 1) := dk_104 (dk_at dksX0_toldIn_1 12 rfl rfl)
theorem dX0_toldIn_36 : decode cX0_toldIn 36 = .ok (.newarray .long, 2) := dk_188_11 (dk_at dksX0_toldIn_1 13 rfl rfl)
theorem dX0_toldIn_38 : decode cX0_toldIn 38 = .ok (.astore 4, 2) := dk_58 4 (dk_at dksX0_toldIn_1 15 rfl rfl)
theorem dX0_toldIn_40 : decode cX0_toldIn 40 = .ok (.iconst 0, 1) := dk_3 (dk_at dksX0_toldIn_1 17 rfl rfl)
theorem dX0_toldIn_41 : decode cX0_toldIn 41 = .ok (.istore 5, 2) := dk_54 5 (dk_at dksX0_toldIn_1 18 rfl rfl)
theorem dX0_toldIn_43 : decode cX0_toldIn 43 = .ok (.iload 5, 2) := dk_21 5 (dk_at dksX0_toldIn_1 20 rfl rfl)
theorem dX0_toldIn_45 : decode cX0_toldIn 45 = .ok (.aload 4, 2) := dk_25 4 (dk_at dksX0_toldIn_1 22 rfl rfl)
theorem dX0_toldIn_47 : decode cX0_toldIn 47 = .ok (.arraylength, 1) := dk_190 (dk_at dksX0_toldIn_2 0 rfl rfl)
theorem dX0_toldIn_48 : decode cX0_toldIn 48 = .ok (.if_icmp .ge 20, 3) := dk_162 0 20 (dk_at dksX0_toldIn_2 1 rfl rfl)
theorem dX0_toldIn_51 : decode cX0_toldIn 51 = .ok (.aload 4, 2) := dk_25 4 (dk_at dksX0_toldIn_2 4 rfl rfl)
theorem dX0_toldIn_53 : decode cX0_toldIn 53 = .ok (.iload 5, 2) := dk_21 5 (dk_at dksX0_toldIn_2 6 rfl rfl)
theorem dX0_toldIn_55 : decode cX0_toldIn 55 = .ok (.aload_n 3, 1) := dk_45 (dk_at dksX0_toldIn_2 8 rfl rfl)
theorem dX0_toldIn_56 : decode cX0_toldIn 56 = .ok (.iload 5, 2) := dk_21 5 (dk_at dksX0_toldIn_2 9 rfl rfl)
theorem dX0_toldIn_58 : decode cX0_toldIn 58 = .ok (.invokestatic 150, 3) := dk_184 0 150 (dk_at dksX0_toldIn_2 11 rfl rfl)
theorem dX0_toldIn_61 : decode cX0_toldIn 61 = .ok (.lastore, 1) := dk_80 (dk_at dksX0_toldIn_2 14 rfl rfl)
theorem dX0_toldIn_62 : decode cX0_toldIn 62 = .ok (.iinc 5 1, 3) := dk_132 5 1 (dk_at dksX0_toldIn_2 15 rfl rfl)
theorem dX0_toldIn_65 : decode cX0_toldIn 65 = .ok (.goto (-22), 3) := dk_167 255 234 (dk_at dksX0_toldIn_2 18 rfl rfl)
theorem dX0_toldIn_68 : decode cX0_toldIn 68 = .ok (.goto 15, 3) := dk_167 0 15 (dk_at dksX0_toldIn_2 21 rfl rfl)
theorem dX0_toldIn_71 : decode cX0_toldIn 71 = .ok (.astore 5, 2) := dk_58 5 (dk_at dksX0_toldIn_3 0 rfl rfl)
theorem dX0_toldIn_73 : decode cX0_toldIn 73 = .ok (.new 119, 3) := dk_187 0 119 (dk_at dksX0_toldIn_3 2 rfl rfl)
theorem dX0_toldIn_76 : decode cX0_toldIn 76 = .ok (.dup, 1) := dk_89 (dk_at dksX0_toldIn_3 5 rfl rfl)
theorem dX0_toldIn_77 : decode cX0_toldIn 77 = .ok (.bipush (-2), 2) := dk_16 254 (dk_at dksX0_toldIn_3 6 rfl rfl)
theorem dX0_toldIn_79 : decode cX0_toldIn 79 = .ok (.invokespecial 121, 3) := dk_183 0 121 (dk_at dksX0_toldIn_3 8 rfl rfl)
theorem dX0_toldIn_82 : decode cX0_toldIn 82 = .ok (.athrow, 1) := dk_191 (dk_at dksX0_toldIn_3 11 rfl rfl)
theorem dX0_toldIn_83 : decode cX0_toldIn 83 = .ok (.aload 4, 2) := dk_25 4 (dk_at dksX0_toldIn_3 12 rfl rfl)
theorem dX0_toldIn_85 : decode cX0_toldIn 85 = .ok (.areturn, 1) := dk_176 (dk_at dksX0_toldIn_3 14 rfl rfl)
abbrev cX0_wrongIn : ByteArray := prog_1_method_80_code
def yX0_wrongIn : MethodName := ⟨RX0, "wrongIn", "([J)I"⟩
def dkwX0_wrongIn_5 : List UInt8 := [133, 148, 153, 0, 7, 29, 5, 108, 172, 132, 3, 2, 167, 255, 178, 2, 172]
abbrev dktX0_wrongIn_5 : List UInt8 := dkwX0_wrongIn_5 ++ []
def dkwX0_wrongIn_4 : List UInt8 := [54, 4, 21, 4, 153, 0, 25, 43, 29, 4, 96, 47, 42, 180, 0, 53, 180, 1, 112, 43, 29, 47, 136, 46]
abbrev dktX0_wrongIn_4 : List UInt8 := dkwX0_wrongIn_4 ++ dktX0_wrongIn_5
def dkwX0_wrongIn_3 : List UInt8 := [47, 42, 28, 29, 5, 108, 16, 8, 184, 1, 109, 182, 1, 17, 133, 148, 154, 0, 7, 4, 167, 0, 4, 3]
abbrev dktX0_wrongIn_3 : List UInt8 := dkwX0_wrongIn_3 ++ dktX0_wrongIn_4
def dkwX0_wrongIn_2 : List UInt8 := [182, 0, 164, 87, 3, 62, 29, 43, 190, 162, 0, 78, 42, 43, 29, 47, 182, 1, 105, 153, 0, 28, 43, 29]
abbrev dktX0_wrongIn_2 : List UInt8 := dkwX0_wrongIn_2 ++ dktX0_wrongIn_3
def dkwX0_wrongIn_1 : List UInt8 := [47, 136, 120, 167, 0, 4, 3, 128, 61, 132, 3, 2, 167, 255, 224, 42, 180, 0, 53, 42, 180, 0, 36, 28]
abbrev dktX0_wrongIn_1 : List UInt8 := dkwX0_wrongIn_1 ++ dktX0_wrongIn_2
def dkwX0_wrongIn_0 : List UInt8 := [3, 61, 3, 62, 29, 43, 190, 162, 0, 32, 28, 42, 43, 29, 47, 182, 1, 105, 153, 0, 12, 4, 43, 29]
abbrev dktX0_wrongIn_0 : List UInt8 := dkwX0_wrongIn_0 ++ dktX0_wrongIn_1
theorem dksX0_wrongIn_0 : cX0_wrongIn.data.toList.drop 0 = dktX0_wrongIn_0 := by decide +kernel
theorem dksX0_wrongIn_1 : cX0_wrongIn.data.toList.drop 24 = dktX0_wrongIn_1 := dk_seg dksX0_wrongIn_0 24 rfl rfl
theorem dksX0_wrongIn_2 : cX0_wrongIn.data.toList.drop 48 = dktX0_wrongIn_2 := dk_seg dksX0_wrongIn_1 24 rfl rfl
theorem dksX0_wrongIn_3 : cX0_wrongIn.data.toList.drop 72 = dktX0_wrongIn_3 := dk_seg dksX0_wrongIn_2 24 rfl rfl
theorem dksX0_wrongIn_4 : cX0_wrongIn.data.toList.drop 96 = dktX0_wrongIn_4 := dk_seg dksX0_wrongIn_3 24 rfl rfl
theorem dksX0_wrongIn_5 : cX0_wrongIn.data.toList.drop 120 = dktX0_wrongIn_5 := dk_seg dksX0_wrongIn_4 24 rfl rfl
theorem dX0_wrongIn_0 : decode cX0_wrongIn 0 = .ok (.iconst 0, 1) := dk_3 (dk_at dksX0_wrongIn_0 0 rfl rfl)
theorem dX0_wrongIn_1 : decode cX0_wrongIn 1 = .ok (.istore_n 2, 1) := dk_61 (dk_at dksX0_wrongIn_0 1 rfl rfl)
theorem dX0_wrongIn_2 : decode cX0_wrongIn 2 = .ok (.iconst 0, 1) := dk_3 (dk_at dksX0_wrongIn_0 2 rfl rfl)
theorem dX0_wrongIn_3 : decode cX0_wrongIn 3 = .ok (.istore_n 3, 1) := dk_62 (dk_at dksX0_wrongIn_0 3 rfl rfl)
theorem dX0_wrongIn_4 : decode cX0_wrongIn 4 = .ok (.iload_n 3, 1) := dk_29 (dk_at dksX0_wrongIn_0 4 rfl rfl)
theorem dX0_wrongIn_5 : decode cX0_wrongIn 5 = .ok (.aload_n 1, 1) := dk_43 (dk_at dksX0_wrongIn_0 5 rfl rfl)
theorem dX0_wrongIn_6 : decode cX0_wrongIn 6 = .ok (.arraylength, 1) := dk_190 (dk_at dksX0_wrongIn_0 6 rfl rfl)
theorem dX0_wrongIn_7 : decode cX0_wrongIn 7 = .ok (.if_icmp .ge 32, 3) := dk_162 0 32 (dk_at dksX0_wrongIn_0 7 rfl rfl)
theorem dX0_wrongIn_10 : decode cX0_wrongIn 10 = .ok (.iload_n 2, 1) := dk_28 (dk_at dksX0_wrongIn_0 10 rfl rfl)
theorem dX0_wrongIn_11 : decode cX0_wrongIn 11 = .ok (.aload_n 0, 1) := dk_42 (dk_at dksX0_wrongIn_0 11 rfl rfl)
theorem dX0_wrongIn_12 : decode cX0_wrongIn 12 = .ok (.aload_n 1, 1) := dk_43 (dk_at dksX0_wrongIn_0 12 rfl rfl)
theorem dX0_wrongIn_13 : decode cX0_wrongIn 13 = .ok (.iload_n 3, 1) := dk_29 (dk_at dksX0_wrongIn_0 13 rfl rfl)
theorem dX0_wrongIn_14 : decode cX0_wrongIn 14 = .ok (.laload, 1) := dk_47 (dk_at dksX0_wrongIn_0 14 rfl rfl)
theorem dX0_wrongIn_15 : decode cX0_wrongIn 15 = .ok (.invokevirtual 361, 3) := dk_182 1 105 (dk_at dksX0_wrongIn_0 15 rfl rfl)
theorem dX0_wrongIn_18 : decode cX0_wrongIn 18 = .ok (.ifCond .eq 12, 3) := dk_153 0 12 (dk_at dksX0_wrongIn_0 18 rfl rfl)
theorem dX0_wrongIn_21 : decode cX0_wrongIn 21 = .ok (.iconst 1, 1) := dk_4 (dk_at dksX0_wrongIn_0 21 rfl rfl)
theorem dX0_wrongIn_22 : decode cX0_wrongIn 22 = .ok (.aload_n 1, 1) := dk_43 (dk_at dksX0_wrongIn_0 22 rfl rfl)
theorem dX0_wrongIn_23 : decode cX0_wrongIn 23 = .ok (.iload_n 3, 1) := dk_29 (dk_at dksX0_wrongIn_0 23 rfl rfl)
theorem dX0_wrongIn_24 : decode cX0_wrongIn 24 = .ok (.laload, 1) := dk_47 (dk_at dksX0_wrongIn_1 0 rfl rfl)
theorem dX0_wrongIn_25 : decode cX0_wrongIn 25 = .ok (.l2i, 1) := dk_136 (dk_at dksX0_wrongIn_1 1 rfl rfl)
theorem dX0_wrongIn_26 : decode cX0_wrongIn 26 = .ok (.ishl, 1) := dk_120 (dk_at dksX0_wrongIn_1 2 rfl rfl)
theorem dX0_wrongIn_27 : decode cX0_wrongIn 27 = .ok (.goto 4, 3) := dk_167 0 4 (dk_at dksX0_wrongIn_1 3 rfl rfl)
theorem dX0_wrongIn_30 : decode cX0_wrongIn 30 = .ok (.iconst 0, 1) := dk_3 (dk_at dksX0_wrongIn_1 6 rfl rfl)
theorem dX0_wrongIn_31 : decode cX0_wrongIn 31 = .ok (.ior, 1) := dk_128 (dk_at dksX0_wrongIn_1 7 rfl rfl)
theorem dX0_wrongIn_32 : decode cX0_wrongIn 32 = .ok (.istore_n 2, 1) := dk_61 (dk_at dksX0_wrongIn_1 8 rfl rfl)
theorem dX0_wrongIn_33 : decode cX0_wrongIn 33 = .ok (.iinc 3 2, 3) := dk_132 3 2 (dk_at dksX0_wrongIn_1 9 rfl rfl)
theorem dX0_wrongIn_36 : decode cX0_wrongIn 36 = .ok (.goto (-32), 3) := dk_167 255 224 (dk_at dksX0_wrongIn_1 12 rfl rfl)
theorem dX0_wrongIn_39 : decode cX0_wrongIn 39 = .ok (.aload_n 0, 1) := dk_42 (dk_at dksX0_wrongIn_1 15 rfl rfl)
theorem dX0_wrongIn_40 : decode cX0_wrongIn 40 = .ok (.getfield 53, 3) := dk_180 0 53 (dk_at dksX0_wrongIn_1 16 rfl rfl)
theorem dX0_wrongIn_43 : decode cX0_wrongIn 43 = .ok (.aload_n 0, 1) := dk_42 (dk_at dksX0_wrongIn_1 19 rfl rfl)
theorem dX0_wrongIn_44 : decode cX0_wrongIn 44 = .ok (.getfield 36, 3) := dk_180 0 36 (dk_at dksX0_wrongIn_1 20 rfl rfl)
theorem dX0_wrongIn_47 : decode cX0_wrongIn 47 = .ok (.iload_n 2, 1) := dk_28 (dk_at dksX0_wrongIn_1 23 rfl rfl)
theorem dX0_wrongIn_48 : decode cX0_wrongIn 48 = .ok (.invokevirtual 164, 3) := dk_182 0 164 (dk_at dksX0_wrongIn_2 0 rfl rfl)
theorem dX0_wrongIn_51 : decode cX0_wrongIn 51 = .ok (.pop, 1) := dk_87 (dk_at dksX0_wrongIn_2 3 rfl rfl)
theorem dX0_wrongIn_52 : decode cX0_wrongIn 52 = .ok (.iconst 0, 1) := dk_3 (dk_at dksX0_wrongIn_2 4 rfl rfl)
theorem dX0_wrongIn_53 : decode cX0_wrongIn 53 = .ok (.istore_n 3, 1) := dk_62 (dk_at dksX0_wrongIn_2 5 rfl rfl)
theorem dX0_wrongIn_54 : decode cX0_wrongIn 54 = .ok (.iload_n 3, 1) := dk_29 (dk_at dksX0_wrongIn_2 6 rfl rfl)
theorem dX0_wrongIn_55 : decode cX0_wrongIn 55 = .ok (.aload_n 1, 1) := dk_43 (dk_at dksX0_wrongIn_2 7 rfl rfl)
theorem dX0_wrongIn_56 : decode cX0_wrongIn 56 = .ok (.arraylength, 1) := dk_190 (dk_at dksX0_wrongIn_2 8 rfl rfl)
theorem dX0_wrongIn_57 : decode cX0_wrongIn 57 = .ok (.if_icmp .ge 78, 3) := dk_162 0 78 (dk_at dksX0_wrongIn_2 9 rfl rfl)
theorem dX0_wrongIn_60 : decode cX0_wrongIn 60 = .ok (.aload_n 0, 1) := dk_42 (dk_at dksX0_wrongIn_2 12 rfl rfl)
theorem dX0_wrongIn_61 : decode cX0_wrongIn 61 = .ok (.aload_n 1, 1) := dk_43 (dk_at dksX0_wrongIn_2 13 rfl rfl)
theorem dX0_wrongIn_62 : decode cX0_wrongIn 62 = .ok (.iload_n 3, 1) := dk_29 (dk_at dksX0_wrongIn_2 14 rfl rfl)
theorem dX0_wrongIn_63 : decode cX0_wrongIn 63 = .ok (.laload, 1) := dk_47 (dk_at dksX0_wrongIn_2 15 rfl rfl)
theorem dX0_wrongIn_64 : decode cX0_wrongIn 64 = .ok (.invokevirtual 361, 3) := dk_182 1 105 (dk_at dksX0_wrongIn_2 16 rfl rfl)
theorem dX0_wrongIn_67 : decode cX0_wrongIn 67 = .ok (.ifCond .eq 28, 3) := dk_153 0 28 (dk_at dksX0_wrongIn_2 19 rfl rfl)
theorem dX0_wrongIn_70 : decode cX0_wrongIn 70 = .ok (.aload_n 1, 1) := dk_43 (dk_at dksX0_wrongIn_2 22 rfl rfl)
theorem dX0_wrongIn_71 : decode cX0_wrongIn 71 = .ok (.iload_n 3, 1) := dk_29 (dk_at dksX0_wrongIn_2 23 rfl rfl)
theorem dX0_wrongIn_72 : decode cX0_wrongIn 72 = .ok (.laload, 1) := dk_47 (dk_at dksX0_wrongIn_3 0 rfl rfl)
theorem dX0_wrongIn_73 : decode cX0_wrongIn 73 = .ok (.aload_n 0, 1) := dk_42 (dk_at dksX0_wrongIn_3 1 rfl rfl)
theorem dX0_wrongIn_74 : decode cX0_wrongIn 74 = .ok (.iload_n 2, 1) := dk_28 (dk_at dksX0_wrongIn_3 2 rfl rfl)
theorem dX0_wrongIn_75 : decode cX0_wrongIn 75 = .ok (.iload_n 3, 1) := dk_29 (dk_at dksX0_wrongIn_3 3 rfl rfl)
theorem dX0_wrongIn_76 : decode cX0_wrongIn 76 = .ok (.iconst 2, 1) := dk_5 (dk_at dksX0_wrongIn_3 4 rfl rfl)
theorem dX0_wrongIn_77 : decode cX0_wrongIn 77 = .ok (.idiv, 1) := dk_108 (dk_at dksX0_wrongIn_3 5 rfl rfl)
theorem dX0_wrongIn_78 : decode cX0_wrongIn 78 = .ok (.bipush 8, 2) := dk_16 8 (dk_at dksX0_wrongIn_3 6 rfl rfl)
theorem dX0_wrongIn_80 : decode cX0_wrongIn 80 = .ok (.invokestatic 365, 3) := dk_184 1 109 (dk_at dksX0_wrongIn_3 8 rfl rfl)
theorem dX0_wrongIn_83 : decode cX0_wrongIn 83 = .ok (.invokevirtual 273, 3) := dk_182 1 17 (dk_at dksX0_wrongIn_3 11 rfl rfl)
theorem dX0_wrongIn_86 : decode cX0_wrongIn 86 = .ok (.i2l, 1) := dk_133 (dk_at dksX0_wrongIn_3 14 rfl rfl)
theorem dX0_wrongIn_87 : decode cX0_wrongIn 87 = .ok (.lcmp, 1) := dk_148 (dk_at dksX0_wrongIn_3 15 rfl rfl)
theorem dX0_wrongIn_88 : decode cX0_wrongIn 88 = .ok (.ifCond .ne 7, 3) := dk_154 0 7 (dk_at dksX0_wrongIn_3 16 rfl rfl)
theorem dX0_wrongIn_91 : decode cX0_wrongIn 91 = .ok (.iconst 1, 1) := dk_4 (dk_at dksX0_wrongIn_3 19 rfl rfl)
theorem dX0_wrongIn_92 : decode cX0_wrongIn 92 = .ok (.goto 4, 3) := dk_167 0 4 (dk_at dksX0_wrongIn_3 20 rfl rfl)
theorem dX0_wrongIn_95 : decode cX0_wrongIn 95 = .ok (.iconst 0, 1) := dk_3 (dk_at dksX0_wrongIn_3 23 rfl rfl)
theorem dX0_wrongIn_96 : decode cX0_wrongIn 96 = .ok (.istore 4, 2) := dk_54 4 (dk_at dksX0_wrongIn_4 0 rfl rfl)
theorem dX0_wrongIn_98 : decode cX0_wrongIn 98 = .ok (.iload 4, 2) := dk_21 4 (dk_at dksX0_wrongIn_4 2 rfl rfl)
theorem dX0_wrongIn_100 : decode cX0_wrongIn 100 = .ok (.ifCond .eq 25, 3) := dk_153 0 25 (dk_at dksX0_wrongIn_4 4 rfl rfl)
theorem dX0_wrongIn_103 : decode cX0_wrongIn 103 = .ok (.aload_n 1, 1) := dk_43 (dk_at dksX0_wrongIn_4 7 rfl rfl)
theorem dX0_wrongIn_104 : decode cX0_wrongIn 104 = .ok (.iload_n 3, 1) := dk_29 (dk_at dksX0_wrongIn_4 8 rfl rfl)
theorem dX0_wrongIn_105 : decode cX0_wrongIn 105 = .ok (.iconst 1, 1) := dk_4 (dk_at dksX0_wrongIn_4 9 rfl rfl)
theorem dX0_wrongIn_106 : decode cX0_wrongIn 106 = .ok (.iadd, 1) := dk_96 (dk_at dksX0_wrongIn_4 10 rfl rfl)
theorem dX0_wrongIn_107 : decode cX0_wrongIn 107 = .ok (.laload, 1) := dk_47 (dk_at dksX0_wrongIn_4 11 rfl rfl)
theorem dX0_wrongIn_108 : decode cX0_wrongIn 108 = .ok (.aload_n 0, 1) := dk_42 (dk_at dksX0_wrongIn_4 12 rfl rfl)
theorem dX0_wrongIn_109 : decode cX0_wrongIn 109 = .ok (.getfield 53, 3) := dk_180 0 53 (dk_at dksX0_wrongIn_4 13 rfl rfl)
theorem dX0_wrongIn_112 : decode cX0_wrongIn 112 = .ok (.getfield 368, 3) := dk_180 1 112 (dk_at dksX0_wrongIn_4 16 rfl rfl)
theorem dX0_wrongIn_115 : decode cX0_wrongIn 115 = .ok (.aload_n 1, 1) := dk_43 (dk_at dksX0_wrongIn_4 19 rfl rfl)
theorem dX0_wrongIn_116 : decode cX0_wrongIn 116 = .ok (.iload_n 3, 1) := dk_29 (dk_at dksX0_wrongIn_4 20 rfl rfl)
theorem dX0_wrongIn_117 : decode cX0_wrongIn 117 = .ok (.laload, 1) := dk_47 (dk_at dksX0_wrongIn_4 21 rfl rfl)
theorem dX0_wrongIn_118 : decode cX0_wrongIn 118 = .ok (.l2i, 1) := dk_136 (dk_at dksX0_wrongIn_4 22 rfl rfl)
theorem dX0_wrongIn_119 : decode cX0_wrongIn 119 = .ok (.iaload, 1) := dk_46 (dk_at dksX0_wrongIn_4 23 rfl rfl)
theorem dX0_wrongIn_120 : decode cX0_wrongIn 120 = .ok (.i2l, 1) := dk_133 (dk_at dksX0_wrongIn_5 0 rfl rfl)
theorem dX0_wrongIn_121 : decode cX0_wrongIn 121 = .ok (.lcmp, 1) := dk_148 (dk_at dksX0_wrongIn_5 1 rfl rfl)
theorem dX0_wrongIn_122 : decode cX0_wrongIn 122 = .ok (.ifCond .eq 7, 3) := dk_153 0 7 (dk_at dksX0_wrongIn_5 2 rfl rfl)
theorem dX0_wrongIn_125 : decode cX0_wrongIn 125 = .ok (.iload_n 3, 1) := dk_29 (dk_at dksX0_wrongIn_5 5 rfl rfl)
theorem dX0_wrongIn_126 : decode cX0_wrongIn 126 = .ok (.iconst 2, 1) := dk_5 (dk_at dksX0_wrongIn_5 6 rfl rfl)
theorem dX0_wrongIn_127 : decode cX0_wrongIn 127 = .ok (.idiv, 1) := dk_108 (dk_at dksX0_wrongIn_5 7 rfl rfl)
theorem dX0_wrongIn_128 : decode cX0_wrongIn 128 = .ok (.ireturn, 1) := dk_172 (dk_at dksX0_wrongIn_5 8 rfl rfl)
theorem dX0_wrongIn_129 : decode cX0_wrongIn 129 = .ok (.iinc 3 2, 3) := dk_132 3 2 (dk_at dksX0_wrongIn_5 9 rfl rfl)
theorem dX0_wrongIn_132 : decode cX0_wrongIn 132 = .ok (.goto (-78), 3) := dk_167 255 178 (dk_at dksX0_wrongIn_5 12 rfl rfl)
theorem dX0_wrongIn_135 : decode cX0_wrongIn 135 = .ok (.iconst (-1), 1) := dk_2 (dk_at dksX0_wrongIn_5 15 rfl rfl)
theorem dX0_wrongIn_136 : decode cX0_wrongIn 136 = .ok (.ireturn, 1) := dk_172 (dk_at dksX0_wrongIn_5 16 rfl rfl)
abbrev cX0_isTold : ByteArray := prog_1_method_79_code
def yX0_isTold : MethodName := ⟨RX0, "isTold", "(J)Z"⟩
def dkwX0_isTold_1 : List UInt8 := [172]
abbrev dktX0_isTold_1 : List UInt8 := dkwX0_isTold_1 ++ []
def dkwX0_isTold_0 : List UInt8 := [31, 9, 148, 155, 0, 20, 31, 42, 180, 0, 36, 180, 0, 192, 133, 148, 156, 0, 7, 4, 167, 0, 4, 3]
abbrev dktX0_isTold_0 : List UInt8 := dkwX0_isTold_0 ++ dktX0_isTold_1
theorem dksX0_isTold_0 : cX0_isTold.data.toList.drop 0 = dktX0_isTold_0 := by decide +kernel
theorem dksX0_isTold_1 : cX0_isTold.data.toList.drop 24 = dktX0_isTold_1 := dk_seg dksX0_isTold_0 24 rfl rfl
theorem dX0_isTold_0 : decode cX0_isTold 0 = .ok (.lload_n 1, 1) := dk_31 (dk_at dksX0_isTold_0 0 rfl rfl)
theorem dX0_isTold_1 : decode cX0_isTold 1 = .ok (.lconst 0, 1) := dk_9 (dk_at dksX0_isTold_0 1 rfl rfl)
theorem dX0_isTold_2 : decode cX0_isTold 2 = .ok (.lcmp, 1) := dk_148 (dk_at dksX0_isTold_0 2 rfl rfl)
theorem dX0_isTold_3 : decode cX0_isTold 3 = .ok (.ifCond .lt 20, 3) := dk_155 0 20 (dk_at dksX0_isTold_0 3 rfl rfl)
theorem dX0_isTold_6 : decode cX0_isTold 6 = .ok (.lload_n 1, 1) := dk_31 (dk_at dksX0_isTold_0 6 rfl rfl)
theorem dX0_isTold_7 : decode cX0_isTold 7 = .ok (.aload_n 0, 1) := dk_42 (dk_at dksX0_isTold_0 7 rfl rfl)
theorem dX0_isTold_8 : decode cX0_isTold 8 = .ok (.getfield 36, 3) := dk_180 0 36 (dk_at dksX0_isTold_0 8 rfl rfl)
theorem dX0_isTold_11 : decode cX0_isTold 11 = .ok (.getfield 192, 3) := dk_180 0 192 (dk_at dksX0_isTold_0 11 rfl rfl)
theorem dX0_isTold_14 : decode cX0_isTold 14 = .ok (.i2l, 1) := dk_133 (dk_at dksX0_isTold_0 14 rfl rfl)
theorem dX0_isTold_15 : decode cX0_isTold 15 = .ok (.lcmp, 1) := dk_148 (dk_at dksX0_isTold_0 15 rfl rfl)
theorem dX0_isTold_16 : decode cX0_isTold 16 = .ok (.ifCond .ge 7, 3) := dk_156 0 7 (dk_at dksX0_isTold_0 16 rfl rfl)
theorem dX0_isTold_19 : decode cX0_isTold 19 = .ok (.iconst 1, 1) := dk_4 (dk_at dksX0_isTold_0 19 rfl rfl)
theorem dX0_isTold_20 : decode cX0_isTold 20 = .ok (.goto 4, 3) := dk_167 0 4 (dk_at dksX0_isTold_0 20 rfl rfl)
theorem dX0_isTold_23 : decode cX0_isTold 23 = .ok (.iconst 0, 1) := dk_3 (dk_at dksX0_isTold_0 23 rfl rfl)
theorem dX0_isTold_24 : decode cX0_isTold 24 = .ok (.ireturn, 1) := dk_172 (dk_at dksX0_isTold_1 0 rfl rfl)
abbrev cX0_evening : ByteArray := prog_1_method_83_code
def yX0_evening : MethodName := ⟨RX0, "evening", "(I)I"⟩
def dkwX0_evening_0 : List UInt8 := [42, 27, 182, 0, 247, 153, 0, 11, 42, 27, 182, 1, 129, 167, 0, 9, 42, 16, 254, 182, 0, 105, 172]
abbrev dktX0_evening_0 : List UInt8 := dkwX0_evening_0 ++ []
theorem dksX0_evening_0 : cX0_evening.data.toList.drop 0 = dktX0_evening_0 := by decide +kernel
theorem dX0_evening_0 : decode cX0_evening 0 = .ok (.aload_n 0, 1) := dk_42 (dk_at dksX0_evening_0 0 rfl rfl)
theorem dX0_evening_1 : decode cX0_evening 1 = .ok (.iload_n 1, 1) := dk_27 (dk_at dksX0_evening_0 1 rfl rfl)
theorem dX0_evening_2 : decode cX0_evening 2 = .ok (.invokevirtual 247, 3) := dk_182 0 247 (dk_at dksX0_evening_0 2 rfl rfl)
theorem dX0_evening_5 : decode cX0_evening 5 = .ok (.ifCond .eq 11, 3) := dk_153 0 11 (dk_at dksX0_evening_0 5 rfl rfl)
theorem dX0_evening_8 : decode cX0_evening 8 = .ok (.aload_n 0, 1) := dk_42 (dk_at dksX0_evening_0 8 rfl rfl)
theorem dX0_evening_9 : decode cX0_evening 9 = .ok (.iload_n 1, 1) := dk_27 (dk_at dksX0_evening_0 9 rfl rfl)
theorem dX0_evening_10 : decode cX0_evening 10 = .ok (.invokevirtual 385, 3) := dk_182 1 129 (dk_at dksX0_evening_0 10 rfl rfl)
theorem dX0_evening_13 : decode cX0_evening 13 = .ok (.goto 9, 3) := dk_167 0 9 (dk_at dksX0_evening_0 13 rfl rfl)
theorem dX0_evening_16 : decode cX0_evening 16 = .ok (.aload_n 0, 1) := dk_42 (dk_at dksX0_evening_0 16 rfl rfl)
theorem dX0_evening_17 : decode cX0_evening 17 = .ok (.bipush (-2), 2) := dk_16 254 (dk_at dksX0_evening_0 17 rfl rfl)
theorem dX0_evening_19 : decode cX0_evening 19 = .ok (.invokevirtual 105, 3) := dk_182 0 105 (dk_at dksX0_evening_0 19 rfl rfl)
theorem dX0_evening_22 : decode cX0_evening 22 = .ok (.ireturn, 1) := dk_172 (dk_at dksX0_evening_0 22 rfl rfl)
abbrev cX0_happens : ByteArray := prog_1_method_82_code
def yX0_happens : MethodName := ⟨RX0, "happens", "(I)I"⟩
def dkwX0_happens_7 : List UInt8 := [180, 0, 36, 89, 180, 1, 126, 4, 96, 181, 1, 126, 28, 172]
abbrev dktX0_happens_7 : List UInt8 := dkwX0_happens_7 ++ []
def dkwX0_happens_6 : List UInt8 := [167, 255, 133, 42, 180, 0, 36, 180, 0, 186, 42, 180, 0, 53, 180, 1, 34, 182, 1, 35, 87, 42]
abbrev dktX0_happens_6 : List UInt8 := dkwX0_happens_6 ++ dktX0_happens_7
def dkwX0_happens_5 : List UInt8 := [29, 46, 167, 0, 16, 42, 180, 0, 36, 180, 0, 186, 180, 0, 189, 21, 4, 46, 79, 132, 3, 1]
abbrev dktX0_happens_5 : List UInt8 := dkwX0_happens_5 ++ dktX0_happens_6
def dkwX0_happens_4 : List UInt8 := [46, 54, 4, 42, 180, 0, 36, 180, 0, 209, 29, 21, 4, 2, 160, 0, 15, 42, 180, 0, 36, 180, 0, 209]
abbrev dktX0_happens_4 : List UInt8 := dkwX0_happens_4 ++ dktX0_happens_5
def dkwX0_happens_3 : List UInt8 := [21, 4, 46, 4, 182, 1, 123, 132, 2, 1, 132, 4, 1, 167, 255, 204, 42, 180, 0, 53, 180, 1, 112, 29]
abbrev dktX0_happens_3 : List UInt8 := dkwX0_happens_3 ++ dktX0_happens_4
def dkwX0_happens_2 : List UInt8 := [46, 21, 4, 184, 0, 202, 153, 0, 28, 42, 180, 0, 36, 29, 42, 180, 0, 36, 180, 0, 186, 180, 0, 189]
abbrev dktX0_happens_2 : List UInt8 := dkwX0_happens_2 ++ dktX0_happens_3
def dkwX0_happens_1 : List UInt8 := [180, 0, 192, 162, 0, 118, 3, 54, 4, 21, 4, 16, 12, 162, 0, 51, 42, 180, 0, 53, 180, 0, 168, 29]
abbrev dktX0_happens_1 : List UInt8 := dkwX0_happens_1 ++ dktX0_happens_2
def dkwX0_happens_0 : List UInt8 := [42, 180, 0, 53, 42, 180, 0, 36, 27, 182, 0, 164, 87, 3, 61, 3, 62, 29, 42, 180, 0, 36]
abbrev dktX0_happens_0 : List UInt8 := dkwX0_happens_0 ++ dktX0_happens_1
theorem dksX0_happens_0 : cX0_happens.data.toList.drop 0 = dktX0_happens_0 := by decide +kernel
theorem dksX0_happens_1 : cX0_happens.data.toList.drop 22 = dktX0_happens_1 := dk_seg dksX0_happens_0 22 rfl rfl
theorem dksX0_happens_2 : cX0_happens.data.toList.drop 46 = dktX0_happens_2 := dk_seg dksX0_happens_1 24 rfl rfl
theorem dksX0_happens_3 : cX0_happens.data.toList.drop 70 = dktX0_happens_3 := dk_seg dksX0_happens_2 24 rfl rfl
theorem dksX0_happens_4 : cX0_happens.data.toList.drop 94 = dktX0_happens_4 := dk_seg dksX0_happens_3 24 rfl rfl
theorem dksX0_happens_5 : cX0_happens.data.toList.drop 118 = dktX0_happens_5 := dk_seg dksX0_happens_4 24 rfl rfl
theorem dksX0_happens_6 : cX0_happens.data.toList.drop 140 = dktX0_happens_6 := dk_seg dksX0_happens_5 22 rfl rfl
theorem dksX0_happens_7 : cX0_happens.data.toList.drop 162 = dktX0_happens_7 := dk_seg dksX0_happens_6 22 rfl rfl
theorem dX0_happens_0 : decode cX0_happens 0 = .ok (.aload_n 0, 1) := dk_42 (dk_at dksX0_happens_0 0 rfl rfl)
theorem dX0_happens_1 : decode cX0_happens 1 = .ok (.getfield 53, 3) := dk_180 0 53 (dk_at dksX0_happens_0 1 rfl rfl)
theorem dX0_happens_4 : decode cX0_happens 4 = .ok (.aload_n 0, 1) := dk_42 (dk_at dksX0_happens_0 4 rfl rfl)
theorem dX0_happens_5 : decode cX0_happens 5 = .ok (.getfield 36, 3) := dk_180 0 36 (dk_at dksX0_happens_0 5 rfl rfl)
theorem dX0_happens_8 : decode cX0_happens 8 = .ok (.iload_n 1, 1) := dk_27 (dk_at dksX0_happens_0 8 rfl rfl)
theorem dX0_happens_9 : decode cX0_happens 9 = .ok (.invokevirtual 164, 3) := dk_182 0 164 (dk_at dksX0_happens_0 9 rfl rfl)
theorem dX0_happens_12 : decode cX0_happens 12 = .ok (.pop, 1) := dk_87 (dk_at dksX0_happens_0 12 rfl rfl)
theorem dX0_happens_13 : decode cX0_happens 13 = .ok (.iconst 0, 1) := dk_3 (dk_at dksX0_happens_0 13 rfl rfl)
theorem dX0_happens_14 : decode cX0_happens 14 = .ok (.istore_n 2, 1) := dk_61 (dk_at dksX0_happens_0 14 rfl rfl)
theorem dX0_happens_15 : decode cX0_happens 15 = .ok (.iconst 0, 1) := dk_3 (dk_at dksX0_happens_0 15 rfl rfl)
theorem dX0_happens_16 : decode cX0_happens 16 = .ok (.istore_n 3, 1) := dk_62 (dk_at dksX0_happens_0 16 rfl rfl)
theorem dX0_happens_17 : decode cX0_happens 17 = .ok (.iload_n 3, 1) := dk_29 (dk_at dksX0_happens_0 17 rfl rfl)
theorem dX0_happens_18 : decode cX0_happens 18 = .ok (.aload_n 0, 1) := dk_42 (dk_at dksX0_happens_0 18 rfl rfl)
theorem dX0_happens_19 : decode cX0_happens 19 = .ok (.getfield 36, 3) := dk_180 0 36 (dk_at dksX0_happens_0 19 rfl rfl)
theorem dX0_happens_22 : decode cX0_happens 22 = .ok (.getfield 192, 3) := dk_180 0 192 (dk_at dksX0_happens_1 0 rfl rfl)
theorem dX0_happens_25 : decode cX0_happens 25 = .ok (.if_icmp .ge 118, 3) := dk_162 0 118 (dk_at dksX0_happens_1 3 rfl rfl)
theorem dX0_happens_28 : decode cX0_happens 28 = .ok (.iconst 0, 1) := dk_3 (dk_at dksX0_happens_1 6 rfl rfl)
theorem dX0_happens_29 : decode cX0_happens 29 = .ok (.istore 4, 2) := dk_54 4 (dk_at dksX0_happens_1 7 rfl rfl)
theorem dX0_happens_31 : decode cX0_happens 31 = .ok (.iload 4, 2) := dk_21 4 (dk_at dksX0_happens_1 9 rfl rfl)
theorem dX0_happens_33 : decode cX0_happens 33 = .ok (.bipush 12, 2) := dk_16 12 (dk_at dksX0_happens_1 11 rfl rfl)
theorem dX0_happens_35 : decode cX0_happens 35 = .ok (.if_icmp .ge 51, 3) := dk_162 0 51 (dk_at dksX0_happens_1 13 rfl rfl)
theorem dX0_happens_38 : decode cX0_happens 38 = .ok (.aload_n 0, 1) := dk_42 (dk_at dksX0_happens_1 16 rfl rfl)
theorem dX0_happens_39 : decode cX0_happens 39 = .ok (.getfield 53, 3) := dk_180 0 53 (dk_at dksX0_happens_1 17 rfl rfl)
theorem dX0_happens_42 : decode cX0_happens 42 = .ok (.getfield 168, 3) := dk_180 0 168 (dk_at dksX0_happens_1 20 rfl rfl)
theorem dX0_happens_45 : decode cX0_happens 45 = .ok (.iload_n 3, 1) := dk_29 (dk_at dksX0_happens_1 23 rfl rfl)
theorem dX0_happens_46 : decode cX0_happens 46 = .ok (.iaload, 1) := dk_46 (dk_at dksX0_happens_2 0 rfl rfl)
theorem dX0_happens_47 : decode cX0_happens 47 = .ok (.iload 4, 2) := dk_21 4 (dk_at dksX0_happens_2 1 rfl rfl)
theorem dX0_happens_49 : decode cX0_happens 49 = .ok (.invokestatic 202, 3) := dk_184 0 202 (dk_at dksX0_happens_2 3 rfl rfl)
theorem dX0_happens_52 : decode cX0_happens 52 = .ok (.ifCond .eq 28, 3) := dk_153 0 28 (dk_at dksX0_happens_2 6 rfl rfl)
theorem dX0_happens_55 : decode cX0_happens 55 = .ok (.aload_n 0, 1) := dk_42 (dk_at dksX0_happens_2 9 rfl rfl)
theorem dX0_happens_56 : decode cX0_happens 56 = .ok (.getfield 36, 3) := dk_180 0 36 (dk_at dksX0_happens_2 10 rfl rfl)
theorem dX0_happens_59 : decode cX0_happens 59 = .ok (.iload_n 3, 1) := dk_29 (dk_at dksX0_happens_2 13 rfl rfl)
theorem dX0_happens_60 : decode cX0_happens 60 = .ok (.aload_n 0, 1) := dk_42 (dk_at dksX0_happens_2 14 rfl rfl)
theorem dX0_happens_61 : decode cX0_happens 61 = .ok (.getfield 36, 3) := dk_180 0 36 (dk_at dksX0_happens_2 15 rfl rfl)
theorem dX0_happens_64 : decode cX0_happens 64 = .ok (.getfield 186, 3) := dk_180 0 186 (dk_at dksX0_happens_2 18 rfl rfl)
theorem dX0_happens_67 : decode cX0_happens 67 = .ok (.getfield 189, 3) := dk_180 0 189 (dk_at dksX0_happens_2 21 rfl rfl)
theorem dX0_happens_70 : decode cX0_happens 70 = .ok (.iload 4, 2) := dk_21 4 (dk_at dksX0_happens_3 0 rfl rfl)
theorem dX0_happens_72 : decode cX0_happens 72 = .ok (.iaload, 1) := dk_46 (dk_at dksX0_happens_3 2 rfl rfl)
theorem dX0_happens_73 : decode cX0_happens 73 = .ok (.iconst 1, 1) := dk_4 (dk_at dksX0_happens_3 3 rfl rfl)
theorem dX0_happens_74 : decode cX0_happens 74 = .ok (.invokevirtual 379, 3) := dk_182 1 123 (dk_at dksX0_happens_3 4 rfl rfl)
theorem dX0_happens_77 : decode cX0_happens 77 = .ok (.iinc 2 1, 3) := dk_132 2 1 (dk_at dksX0_happens_3 7 rfl rfl)
theorem dX0_happens_80 : decode cX0_happens 80 = .ok (.iinc 4 1, 3) := dk_132 4 1 (dk_at dksX0_happens_3 10 rfl rfl)
theorem dX0_happens_83 : decode cX0_happens 83 = .ok (.goto (-52), 3) := dk_167 255 204 (dk_at dksX0_happens_3 13 rfl rfl)
theorem dX0_happens_86 : decode cX0_happens 86 = .ok (.aload_n 0, 1) := dk_42 (dk_at dksX0_happens_3 16 rfl rfl)
theorem dX0_happens_87 : decode cX0_happens 87 = .ok (.getfield 53, 3) := dk_180 0 53 (dk_at dksX0_happens_3 17 rfl rfl)
theorem dX0_happens_90 : decode cX0_happens 90 = .ok (.getfield 368, 3) := dk_180 1 112 (dk_at dksX0_happens_3 20 rfl rfl)
theorem dX0_happens_93 : decode cX0_happens 93 = .ok (.iload_n 3, 1) := dk_29 (dk_at dksX0_happens_3 23 rfl rfl)
theorem dX0_happens_94 : decode cX0_happens 94 = .ok (.iaload, 1) := dk_46 (dk_at dksX0_happens_4 0 rfl rfl)
theorem dX0_happens_95 : decode cX0_happens 95 = .ok (.istore 4, 2) := dk_54 4 (dk_at dksX0_happens_4 1 rfl rfl)
theorem dX0_happens_97 : decode cX0_happens 97 = .ok (.aload_n 0, 1) := dk_42 (dk_at dksX0_happens_4 3 rfl rfl)
theorem dX0_happens_98 : decode cX0_happens 98 = .ok (.getfield 36, 3) := dk_180 0 36 (dk_at dksX0_happens_4 4 rfl rfl)
theorem dX0_happens_101 : decode cX0_happens 101 = .ok (.getfield 209, 3) := dk_180 0 209 (dk_at dksX0_happens_4 7 rfl rfl)
theorem dX0_happens_104 : decode cX0_happens 104 = .ok (.iload_n 3, 1) := dk_29 (dk_at dksX0_happens_4 10 rfl rfl)
theorem dX0_happens_105 : decode cX0_happens 105 = .ok (.iload 4, 2) := dk_21 4 (dk_at dksX0_happens_4 11 rfl rfl)
theorem dX0_happens_107 : decode cX0_happens 107 = .ok (.iconst (-1), 1) := dk_2 (dk_at dksX0_happens_4 13 rfl rfl)
theorem dX0_happens_108 : decode cX0_happens 108 = .ok (.if_icmp .ne 15, 3) := dk_160 0 15 (dk_at dksX0_happens_4 14 rfl rfl)
theorem dX0_happens_111 : decode cX0_happens 111 = .ok (.aload_n 0, 1) := dk_42 (dk_at dksX0_happens_4 17 rfl rfl)
theorem dX0_happens_112 : decode cX0_happens 112 = .ok (.getfield 36, 3) := dk_180 0 36 (dk_at dksX0_happens_4 18 rfl rfl)
theorem dX0_happens_115 : decode cX0_happens 115 = .ok (.getfield 209, 3) := dk_180 0 209 (dk_at dksX0_happens_4 21 rfl rfl)
theorem dX0_happens_118 : decode cX0_happens 118 = .ok (.iload_n 3, 1) := dk_29 (dk_at dksX0_happens_5 0 rfl rfl)
theorem dX0_happens_119 : decode cX0_happens 119 = .ok (.iaload, 1) := dk_46 (dk_at dksX0_happens_5 1 rfl rfl)
theorem dX0_happens_120 : decode cX0_happens 120 = .ok (.goto 16, 3) := dk_167 0 16 (dk_at dksX0_happens_5 2 rfl rfl)
theorem dX0_happens_123 : decode cX0_happens 123 = .ok (.aload_n 0, 1) := dk_42 (dk_at dksX0_happens_5 5 rfl rfl)
theorem dX0_happens_124 : decode cX0_happens 124 = .ok (.getfield 36, 3) := dk_180 0 36 (dk_at dksX0_happens_5 6 rfl rfl)
theorem dX0_happens_127 : decode cX0_happens 127 = .ok (.getfield 186, 3) := dk_180 0 186 (dk_at dksX0_happens_5 9 rfl rfl)
theorem dX0_happens_130 : decode cX0_happens 130 = .ok (.getfield 189, 3) := dk_180 0 189 (dk_at dksX0_happens_5 12 rfl rfl)
theorem dX0_happens_133 : decode cX0_happens 133 = .ok (.iload 4, 2) := dk_21 4 (dk_at dksX0_happens_5 15 rfl rfl)
theorem dX0_happens_135 : decode cX0_happens 135 = .ok (.iaload, 1) := dk_46 (dk_at dksX0_happens_5 17 rfl rfl)
theorem dX0_happens_136 : decode cX0_happens 136 = .ok (.iastore, 1) := dk_79 (dk_at dksX0_happens_5 18 rfl rfl)
theorem dX0_happens_137 : decode cX0_happens 137 = .ok (.iinc 3 1, 3) := dk_132 3 1 (dk_at dksX0_happens_5 19 rfl rfl)
theorem dX0_happens_140 : decode cX0_happens 140 = .ok (.goto (-123), 3) := dk_167 255 133 (dk_at dksX0_happens_6 0 rfl rfl)
theorem dX0_happens_143 : decode cX0_happens 143 = .ok (.aload_n 0, 1) := dk_42 (dk_at dksX0_happens_6 3 rfl rfl)
theorem dX0_happens_144 : decode cX0_happens 144 = .ok (.getfield 36, 3) := dk_180 0 36 (dk_at dksX0_happens_6 4 rfl rfl)
theorem dX0_happens_147 : decode cX0_happens 147 = .ok (.getfield 186, 3) := dk_180 0 186 (dk_at dksX0_happens_6 7 rfl rfl)
theorem dX0_happens_150 : decode cX0_happens 150 = .ok (.aload_n 0, 1) := dk_42 (dk_at dksX0_happens_6 10 rfl rfl)
theorem dX0_happens_151 : decode cX0_happens 151 = .ok (.getfield 53, 3) := dk_180 0 53 (dk_at dksX0_happens_6 11 rfl rfl)
theorem dX0_happens_154 : decode cX0_happens 154 = .ok (.getfield 290, 3) := dk_180 1 34 (dk_at dksX0_happens_6 14 rfl rfl)
theorem dX0_happens_157 : decode cX0_happens 157 = .ok (.invokevirtual 291, 3) := dk_182 1 35 (dk_at dksX0_happens_6 17 rfl rfl)
theorem dX0_happens_160 : decode cX0_happens 160 = .ok (.pop, 1) := dk_87 (dk_at dksX0_happens_6 20 rfl rfl)
theorem dX0_happens_161 : decode cX0_happens 161 = .ok (.aload_n 0, 1) := dk_42 (dk_at dksX0_happens_6 21 rfl rfl)
theorem dX0_happens_162 : decode cX0_happens 162 = .ok (.getfield 36, 3) := dk_180 0 36 (dk_at dksX0_happens_7 0 rfl rfl)
theorem dX0_happens_165 : decode cX0_happens 165 = .ok (.dup, 1) := dk_89 (dk_at dksX0_happens_7 3 rfl rfl)
theorem dX0_happens_166 : decode cX0_happens 166 = .ok (.getfield 382, 3) := dk_180 1 126 (dk_at dksX0_happens_7 4 rfl rfl)
theorem dX0_happens_169 : decode cX0_happens 169 = .ok (.iconst 1, 1) := dk_4 (dk_at dksX0_happens_7 7 rfl rfl)
theorem dX0_happens_170 : decode cX0_happens 170 = .ok (.iadd, 1) := dk_96 (dk_at dksX0_happens_7 8 rfl rfl)
theorem dX0_happens_171 : decode cX0_happens 171 = .ok (.putfield 382, 3) := dk_181 1 126 (dk_at dksX0_happens_7 9 rfl rfl)
theorem dX0_happens_174 : decode cX0_happens 174 = .ok (.iload_n 2, 1) := dk_28 (dk_at dksX0_happens_7 12 rfl rfl)
theorem dX0_happens_175 : decode cX0_happens 175 = .ok (.ireturn, 1) := dk_172 (dk_at dksX0_happens_7 13 rfl rfl)
abbrev cX0_swap : ByteArray := prog_1_method_84_code
def yX0_swap : MethodName := ⟨RX0, "swap", "()I"⟩
def dkwX0_swap_3 : List UInt8 := [180, 0, 209, 28, 42, 180, 0, 61, 28, 46, 79, 132, 2, 1, 167, 255, 184, 27, 172]
abbrev dktX0_swap_3 : List UInt8 := dkwX0_swap_3 ++ []
def dkwX0_swap_2 : List UInt8 := [182, 1, 123, 42, 180, 0, 36, 28, 42, 180, 0, 61, 28, 46, 4, 182, 1, 123, 42, 180, 0, 36]
abbrev dktX0_swap_2 : List UInt8 := dkwX0_swap_2 ++ dktX0_swap_3
def dkwX0_swap_1 : List UInt8 := [180, 0, 61, 28, 46, 2, 159, 0, 51, 42, 180, 0, 36, 28, 42, 180, 0, 36, 180, 0, 209, 28, 46, 2]
abbrev dktX0_swap_1 : List UInt8 := dkwX0_swap_1 ++ dktX0_swap_2
def dkwX0_swap_0 : List UInt8 := [42, 182, 1, 99, 42, 182, 1, 102, 60, 3, 61, 28, 42, 180, 0, 36, 180, 0, 192, 162, 0, 67, 42]
abbrev dktX0_swap_0 : List UInt8 := dkwX0_swap_0 ++ dktX0_swap_1
theorem dksX0_swap_0 : cX0_swap.data.toList.drop 0 = dktX0_swap_0 := by decide +kernel
theorem dksX0_swap_1 : cX0_swap.data.toList.drop 23 = dktX0_swap_1 := dk_seg dksX0_swap_0 23 rfl rfl
theorem dksX0_swap_2 : cX0_swap.data.toList.drop 47 = dktX0_swap_2 := dk_seg dksX0_swap_1 24 rfl rfl
theorem dksX0_swap_3 : cX0_swap.data.toList.drop 69 = dktX0_swap_3 := dk_seg dksX0_swap_2 22 rfl rfl
theorem dX0_swap_0 : decode cX0_swap 0 = .ok (.aload_n 0, 1) := dk_42 (dk_at dksX0_swap_0 0 rfl rfl)
theorem dX0_swap_1 : decode cX0_swap 1 = .ok (.invokevirtual 355, 3) := dk_182 1 99 (dk_at dksX0_swap_0 1 rfl rfl)
theorem dX0_swap_4 : decode cX0_swap 4 = .ok (.aload_n 0, 1) := dk_42 (dk_at dksX0_swap_0 4 rfl rfl)
theorem dX0_swap_5 : decode cX0_swap 5 = .ok (.invokevirtual 358, 3) := dk_182 1 102 (dk_at dksX0_swap_0 5 rfl rfl)
theorem dX0_swap_8 : decode cX0_swap 8 = .ok (.istore_n 1, 1) := dk_60 (dk_at dksX0_swap_0 8 rfl rfl)
theorem dX0_swap_9 : decode cX0_swap 9 = .ok (.iconst 0, 1) := dk_3 (dk_at dksX0_swap_0 9 rfl rfl)
theorem dX0_swap_10 : decode cX0_swap 10 = .ok (.istore_n 2, 1) := dk_61 (dk_at dksX0_swap_0 10 rfl rfl)
theorem dX0_swap_11 : decode cX0_swap 11 = .ok (.iload_n 2, 1) := dk_28 (dk_at dksX0_swap_0 11 rfl rfl)
theorem dX0_swap_12 : decode cX0_swap 12 = .ok (.aload_n 0, 1) := dk_42 (dk_at dksX0_swap_0 12 rfl rfl)
theorem dX0_swap_13 : decode cX0_swap 13 = .ok (.getfield 36, 3) := dk_180 0 36 (dk_at dksX0_swap_0 13 rfl rfl)
theorem dX0_swap_16 : decode cX0_swap 16 = .ok (.getfield 192, 3) := dk_180 0 192 (dk_at dksX0_swap_0 16 rfl rfl)
theorem dX0_swap_19 : decode cX0_swap 19 = .ok (.if_icmp .ge 67, 3) := dk_162 0 67 (dk_at dksX0_swap_0 19 rfl rfl)
theorem dX0_swap_22 : decode cX0_swap 22 = .ok (.aload_n 0, 1) := dk_42 (dk_at dksX0_swap_0 22 rfl rfl)
theorem dX0_swap_23 : decode cX0_swap 23 = .ok (.getfield 61, 3) := dk_180 0 61 (dk_at dksX0_swap_1 0 rfl rfl)
theorem dX0_swap_26 : decode cX0_swap 26 = .ok (.iload_n 2, 1) := dk_28 (dk_at dksX0_swap_1 3 rfl rfl)
theorem dX0_swap_27 : decode cX0_swap 27 = .ok (.iaload, 1) := dk_46 (dk_at dksX0_swap_1 4 rfl rfl)
theorem dX0_swap_28 : decode cX0_swap 28 = .ok (.iconst (-1), 1) := dk_2 (dk_at dksX0_swap_1 5 rfl rfl)
theorem dX0_swap_29 : decode cX0_swap 29 = .ok (.if_icmp .eq 51, 3) := dk_159 0 51 (dk_at dksX0_swap_1 6 rfl rfl)
theorem dX0_swap_32 : decode cX0_swap 32 = .ok (.aload_n 0, 1) := dk_42 (dk_at dksX0_swap_1 9 rfl rfl)
theorem dX0_swap_33 : decode cX0_swap 33 = .ok (.getfield 36, 3) := dk_180 0 36 (dk_at dksX0_swap_1 10 rfl rfl)
theorem dX0_swap_36 : decode cX0_swap 36 = .ok (.iload_n 2, 1) := dk_28 (dk_at dksX0_swap_1 13 rfl rfl)
theorem dX0_swap_37 : decode cX0_swap 37 = .ok (.aload_n 0, 1) := dk_42 (dk_at dksX0_swap_1 14 rfl rfl)
theorem dX0_swap_38 : decode cX0_swap 38 = .ok (.getfield 36, 3) := dk_180 0 36 (dk_at dksX0_swap_1 15 rfl rfl)
theorem dX0_swap_41 : decode cX0_swap 41 = .ok (.getfield 209, 3) := dk_180 0 209 (dk_at dksX0_swap_1 18 rfl rfl)
theorem dX0_swap_44 : decode cX0_swap 44 = .ok (.iload_n 2, 1) := dk_28 (dk_at dksX0_swap_1 21 rfl rfl)
theorem dX0_swap_45 : decode cX0_swap 45 = .ok (.iaload, 1) := dk_46 (dk_at dksX0_swap_1 22 rfl rfl)
theorem dX0_swap_46 : decode cX0_swap 46 = .ok (.iconst (-1), 1) := dk_2 (dk_at dksX0_swap_1 23 rfl rfl)
theorem dX0_swap_47 : decode cX0_swap 47 = .ok (.invokevirtual 379, 3) := dk_182 1 123 (dk_at dksX0_swap_2 0 rfl rfl)
theorem dX0_swap_50 : decode cX0_swap 50 = .ok (.aload_n 0, 1) := dk_42 (dk_at dksX0_swap_2 3 rfl rfl)
theorem dX0_swap_51 : decode cX0_swap 51 = .ok (.getfield 36, 3) := dk_180 0 36 (dk_at dksX0_swap_2 4 rfl rfl)
theorem dX0_swap_54 : decode cX0_swap 54 = .ok (.iload_n 2, 1) := dk_28 (dk_at dksX0_swap_2 7 rfl rfl)
theorem dX0_swap_55 : decode cX0_swap 55 = .ok (.aload_n 0, 1) := dk_42 (dk_at dksX0_swap_2 8 rfl rfl)
theorem dX0_swap_56 : decode cX0_swap 56 = .ok (.getfield 61, 3) := dk_180 0 61 (dk_at dksX0_swap_2 9 rfl rfl)
theorem dX0_swap_59 : decode cX0_swap 59 = .ok (.iload_n 2, 1) := dk_28 (dk_at dksX0_swap_2 12 rfl rfl)
theorem dX0_swap_60 : decode cX0_swap 60 = .ok (.iaload, 1) := dk_46 (dk_at dksX0_swap_2 13 rfl rfl)
theorem dX0_swap_61 : decode cX0_swap 61 = .ok (.iconst 1, 1) := dk_4 (dk_at dksX0_swap_2 14 rfl rfl)
theorem dX0_swap_62 : decode cX0_swap 62 = .ok (.invokevirtual 379, 3) := dk_182 1 123 (dk_at dksX0_swap_2 15 rfl rfl)
theorem dX0_swap_65 : decode cX0_swap 65 = .ok (.aload_n 0, 1) := dk_42 (dk_at dksX0_swap_2 18 rfl rfl)
theorem dX0_swap_66 : decode cX0_swap 66 = .ok (.getfield 36, 3) := dk_180 0 36 (dk_at dksX0_swap_2 19 rfl rfl)
theorem dX0_swap_69 : decode cX0_swap 69 = .ok (.getfield 209, 3) := dk_180 0 209 (dk_at dksX0_swap_3 0 rfl rfl)
theorem dX0_swap_72 : decode cX0_swap 72 = .ok (.iload_n 2, 1) := dk_28 (dk_at dksX0_swap_3 3 rfl rfl)
theorem dX0_swap_73 : decode cX0_swap 73 = .ok (.aload_n 0, 1) := dk_42 (dk_at dksX0_swap_3 4 rfl rfl)
theorem dX0_swap_74 : decode cX0_swap 74 = .ok (.getfield 61, 3) := dk_180 0 61 (dk_at dksX0_swap_3 5 rfl rfl)
theorem dX0_swap_77 : decode cX0_swap 77 = .ok (.iload_n 2, 1) := dk_28 (dk_at dksX0_swap_3 8 rfl rfl)
theorem dX0_swap_78 : decode cX0_swap 78 = .ok (.iaload, 1) := dk_46 (dk_at dksX0_swap_3 9 rfl rfl)
theorem dX0_swap_79 : decode cX0_swap 79 = .ok (.iastore, 1) := dk_79 (dk_at dksX0_swap_3 10 rfl rfl)
theorem dX0_swap_80 : decode cX0_swap 80 = .ok (.iinc 2 1, 3) := dk_132 2 1 (dk_at dksX0_swap_3 11 rfl rfl)
theorem dX0_swap_83 : decode cX0_swap 83 = .ok (.goto (-72), 3) := dk_167 255 184 (dk_at dksX0_swap_3 14 rfl rfl)
theorem dX0_swap_86 : decode cX0_swap 86 = .ok (.iload_n 1, 1) := dk_27 (dk_at dksX0_swap_3 17 rfl rfl)
theorem dX0_swap_87 : decode cX0_swap 87 = .ok (.ireturn, 1) := dk_172 (dk_at dksX0_swap_3 18 rfl rfl)
abbrev cX0_christmases : ByteArray := prog_1_method_86_code
def yX0_christmases : MethodName := ⟨RX0, "christmases", "(I)I"⟩
def dkwX0_christmases_1 : List UInt8 := [162, 0, 16, 28, 42, 182, 1, 135, 96, 61, 132, 3, 1, 167, 255, 241, 28, 172]
abbrev dktX0_christmases_1 : List UInt8 := dkwX0_christmases_1 ++ []
def dkwX0_christmases_0 : List UInt8 := [27, 4, 16, 40, 184, 0, 3, 154, 0, 10, 42, 16, 254, 182, 0, 105, 172, 3, 61, 3, 62, 29, 27]
abbrev dktX0_christmases_0 : List UInt8 := dkwX0_christmases_0 ++ dktX0_christmases_1
theorem dksX0_christmases_0 : cX0_christmases.data.toList.drop 0 = dktX0_christmases_0 := by decide +kernel
theorem dksX0_christmases_1 : cX0_christmases.data.toList.drop 23 = dktX0_christmases_1 := dk_seg dksX0_christmases_0 23 rfl rfl
theorem dX0_christmases_0 : decode cX0_christmases 0 = .ok (.iload_n 1, 1) := dk_27 (dk_at dksX0_christmases_0 0 rfl rfl)
theorem dX0_christmases_1 : decode cX0_christmases 1 = .ok (.iconst 1, 1) := dk_4 (dk_at dksX0_christmases_0 1 rfl rfl)
theorem dX0_christmases_2 : decode cX0_christmases 2 = .ok (.bipush 40, 2) := dk_16 40 (dk_at dksX0_christmases_0 2 rfl rfl)
theorem dX0_christmases_4 : decode cX0_christmases 4 = .ok (.invokestatic 3, 3) := dk_184 0 3 (dk_at dksX0_christmases_0 4 rfl rfl)
theorem dX0_christmases_7 : decode cX0_christmases 7 = .ok (.ifCond .ne 10, 3) := dk_154 0 10 (dk_at dksX0_christmases_0 7 rfl rfl)
theorem dX0_christmases_10 : decode cX0_christmases 10 = .ok (.aload_n 0, 1) := dk_42 (dk_at dksX0_christmases_0 10 rfl rfl)
theorem dX0_christmases_11 : decode cX0_christmases 11 = .ok (.bipush (-2), 2) := dk_16 254 (dk_at dksX0_christmases_0 11 rfl rfl)
theorem dX0_christmases_13 : decode cX0_christmases 13 = .ok (.invokevirtual 105, 3) := dk_182 0 105 (dk_at dksX0_christmases_0 13 rfl rfl)
theorem dX0_christmases_16 : decode cX0_christmases 16 = .ok (.ireturn, 1) := dk_172 (dk_at dksX0_christmases_0 16 rfl rfl)
theorem dX0_christmases_17 : decode cX0_christmases 17 = .ok (.iconst 0, 1) := dk_3 (dk_at dksX0_christmases_0 17 rfl rfl)
theorem dX0_christmases_18 : decode cX0_christmases 18 = .ok (.istore_n 2, 1) := dk_61 (dk_at dksX0_christmases_0 18 rfl rfl)
theorem dX0_christmases_19 : decode cX0_christmases 19 = .ok (.iconst 0, 1) := dk_3 (dk_at dksX0_christmases_0 19 rfl rfl)
theorem dX0_christmases_20 : decode cX0_christmases 20 = .ok (.istore_n 3, 1) := dk_62 (dk_at dksX0_christmases_0 20 rfl rfl)
theorem dX0_christmases_21 : decode cX0_christmases 21 = .ok (.iload_n 3, 1) := dk_29 (dk_at dksX0_christmases_0 21 rfl rfl)
theorem dX0_christmases_22 : decode cX0_christmases 22 = .ok (.iload_n 1, 1) := dk_27 (dk_at dksX0_christmases_0 22 rfl rfl)
theorem dX0_christmases_23 : decode cX0_christmases 23 = .ok (.if_icmp .ge 16, 3) := dk_162 0 16 (dk_at dksX0_christmases_1 0 rfl rfl)
theorem dX0_christmases_26 : decode cX0_christmases 26 = .ok (.iload_n 2, 1) := dk_28 (dk_at dksX0_christmases_1 3 rfl rfl)
theorem dX0_christmases_27 : decode cX0_christmases 27 = .ok (.aload_n 0, 1) := dk_42 (dk_at dksX0_christmases_1 4 rfl rfl)
theorem dX0_christmases_28 : decode cX0_christmases 28 = .ok (.invokevirtual 391, 3) := dk_182 1 135 (dk_at dksX0_christmases_1 5 rfl rfl)
theorem dX0_christmases_31 : decode cX0_christmases 31 = .ok (.iadd, 1) := dk_96 (dk_at dksX0_christmases_1 8 rfl rfl)
theorem dX0_christmases_32 : decode cX0_christmases 32 = .ok (.istore_n 2, 1) := dk_61 (dk_at dksX0_christmases_1 9 rfl rfl)
theorem dX0_christmases_33 : decode cX0_christmases 33 = .ok (.iinc 3 1, 3) := dk_132 3 1 (dk_at dksX0_christmases_1 10 rfl rfl)
theorem dX0_christmases_36 : decode cX0_christmases 36 = .ok (.goto (-15), 3) := dk_167 255 241 (dk_at dksX0_christmases_1 13 rfl rfl)
theorem dX0_christmases_39 : decode cX0_christmases 39 = .ok (.iload_n 2, 1) := dk_28 (dk_at dksX0_christmases_1 16 rfl rfl)
theorem dX0_christmases_40 : decode cX0_christmases 40 = .ok (.ireturn, 1) := dk_172 (dk_at dksX0_christmases_1 17 rfl rfl)
abbrev cX0_christmas : ByteArray := prog_1_method_85_code
def yX0_christmas : MethodName := ⟨RX0, "christmas", "()I"⟩
def dkwX0_christmas_5 : List UInt8 := [132, 3, 1, 167, 255, 195, 28, 172]
abbrev dktX0_christmas_5 : List UInt8 := dkwX0_christmas_5 ++ []
def dkwX0_christmas_4 : List UInt8 := [180, 0, 36, 16, 8, 182, 1, 132, 167, 0, 15, 42, 180, 0, 36, 180, 0, 186, 180, 0, 189, 29, 46, 79]
abbrev dktX0_christmas_4 : List UInt8 := dkwX0_christmas_4 ++ dktX0_christmas_5
def dkwX0_christmas_3 : List UInt8 := [180, 0, 186, 180, 0, 189, 29, 42, 180, 0, 36, 180, 0, 186, 180, 0, 189, 29, 46, 2, 160, 0, 15, 42]
abbrev dktX0_christmas_3 : List UInt8 := dkwX0_christmas_3 ++ dktX0_christmas_4
def dkwX0_christmas_2 : List UInt8 := [132, 2, 1, 167, 255, 211, 42, 27, 182, 1, 129, 61, 3, 62, 29, 16, 12, 162, 0, 61, 42, 180, 0, 36]
abbrev dktX0_christmas_2 : List UInt8 := dkwX0_christmas_2 ++ dktX0_christmas_3
def dkwX0_christmas_1 : List UInt8 := [182, 1, 132, 42, 180, 0, 36, 180, 0, 206, 28, 46, 162, 0, 9, 4, 28, 120, 167, 0, 4, 3, 128, 60]
abbrev dktX0_christmas_1 : List UInt8 := dkwX0_christmas_1 ++ dktX0_christmas_2
def dkwX0_christmas_0 : List UInt8 := [3, 60, 3, 61, 28, 42, 180, 0, 36, 180, 0, 192, 162, 0, 40, 27, 42, 180, 0, 36, 16, 12]
abbrev dktX0_christmas_0 : List UInt8 := dkwX0_christmas_0 ++ dktX0_christmas_1
theorem dksX0_christmas_0 : cX0_christmas.data.toList.drop 0 = dktX0_christmas_0 := by decide +kernel
theorem dksX0_christmas_1 : cX0_christmas.data.toList.drop 22 = dktX0_christmas_1 := dk_seg dksX0_christmas_0 22 rfl rfl
theorem dksX0_christmas_2 : cX0_christmas.data.toList.drop 46 = dktX0_christmas_2 := dk_seg dksX0_christmas_1 24 rfl rfl
theorem dksX0_christmas_3 : cX0_christmas.data.toList.drop 70 = dktX0_christmas_3 := dk_seg dksX0_christmas_2 24 rfl rfl
theorem dksX0_christmas_4 : cX0_christmas.data.toList.drop 94 = dktX0_christmas_4 := dk_seg dksX0_christmas_3 24 rfl rfl
theorem dksX0_christmas_5 : cX0_christmas.data.toList.drop 118 = dktX0_christmas_5 := dk_seg dksX0_christmas_4 24 rfl rfl
theorem dX0_christmas_0 : decode cX0_christmas 0 = .ok (.iconst 0, 1) := dk_3 (dk_at dksX0_christmas_0 0 rfl rfl)
theorem dX0_christmas_1 : decode cX0_christmas 1 = .ok (.istore_n 1, 1) := dk_60 (dk_at dksX0_christmas_0 1 rfl rfl)
theorem dX0_christmas_2 : decode cX0_christmas 2 = .ok (.iconst 0, 1) := dk_3 (dk_at dksX0_christmas_0 2 rfl rfl)
theorem dX0_christmas_3 : decode cX0_christmas 3 = .ok (.istore_n 2, 1) := dk_61 (dk_at dksX0_christmas_0 3 rfl rfl)
theorem dX0_christmas_4 : decode cX0_christmas 4 = .ok (.iload_n 2, 1) := dk_28 (dk_at dksX0_christmas_0 4 rfl rfl)
theorem dX0_christmas_5 : decode cX0_christmas 5 = .ok (.aload_n 0, 1) := dk_42 (dk_at dksX0_christmas_0 5 rfl rfl)
theorem dX0_christmas_6 : decode cX0_christmas 6 = .ok (.getfield 36, 3) := dk_180 0 36 (dk_at dksX0_christmas_0 6 rfl rfl)
theorem dX0_christmas_9 : decode cX0_christmas 9 = .ok (.getfield 192, 3) := dk_180 0 192 (dk_at dksX0_christmas_0 9 rfl rfl)
theorem dX0_christmas_12 : decode cX0_christmas 12 = .ok (.if_icmp .ge 40, 3) := dk_162 0 40 (dk_at dksX0_christmas_0 12 rfl rfl)
theorem dX0_christmas_15 : decode cX0_christmas 15 = .ok (.iload_n 1, 1) := dk_27 (dk_at dksX0_christmas_0 15 rfl rfl)
theorem dX0_christmas_16 : decode cX0_christmas 16 = .ok (.aload_n 0, 1) := dk_42 (dk_at dksX0_christmas_0 16 rfl rfl)
theorem dX0_christmas_17 : decode cX0_christmas 17 = .ok (.getfield 36, 3) := dk_180 0 36 (dk_at dksX0_christmas_0 17 rfl rfl)
theorem dX0_christmas_20 : decode cX0_christmas 20 = .ok (.bipush 12, 2) := dk_16 12 (dk_at dksX0_christmas_0 20 rfl rfl)
theorem dX0_christmas_22 : decode cX0_christmas 22 = .ok (.invokevirtual 388, 3) := dk_182 1 132 (dk_at dksX0_christmas_1 0 rfl rfl)
theorem dX0_christmas_25 : decode cX0_christmas 25 = .ok (.aload_n 0, 1) := dk_42 (dk_at dksX0_christmas_1 3 rfl rfl)
theorem dX0_christmas_26 : decode cX0_christmas 26 = .ok (.getfield 36, 3) := dk_180 0 36 (dk_at dksX0_christmas_1 4 rfl rfl)
theorem dX0_christmas_29 : decode cX0_christmas 29 = .ok (.getfield 206, 3) := dk_180 0 206 (dk_at dksX0_christmas_1 7 rfl rfl)
theorem dX0_christmas_32 : decode cX0_christmas 32 = .ok (.iload_n 2, 1) := dk_28 (dk_at dksX0_christmas_1 10 rfl rfl)
theorem dX0_christmas_33 : decode cX0_christmas 33 = .ok (.iaload, 1) := dk_46 (dk_at dksX0_christmas_1 11 rfl rfl)
theorem dX0_christmas_34 : decode cX0_christmas 34 = .ok (.if_icmp .ge 9, 3) := dk_162 0 9 (dk_at dksX0_christmas_1 12 rfl rfl)
theorem dX0_christmas_37 : decode cX0_christmas 37 = .ok (.iconst 1, 1) := dk_4 (dk_at dksX0_christmas_1 15 rfl rfl)
theorem dX0_christmas_38 : decode cX0_christmas 38 = .ok (.iload_n 2, 1) := dk_28 (dk_at dksX0_christmas_1 16 rfl rfl)
theorem dX0_christmas_39 : decode cX0_christmas 39 = .ok (.ishl, 1) := dk_120 (dk_at dksX0_christmas_1 17 rfl rfl)
theorem dX0_christmas_40 : decode cX0_christmas 40 = .ok (.goto 4, 3) := dk_167 0 4 (dk_at dksX0_christmas_1 18 rfl rfl)
theorem dX0_christmas_43 : decode cX0_christmas 43 = .ok (.iconst 0, 1) := dk_3 (dk_at dksX0_christmas_1 21 rfl rfl)
theorem dX0_christmas_44 : decode cX0_christmas 44 = .ok (.ior, 1) := dk_128 (dk_at dksX0_christmas_1 22 rfl rfl)
theorem dX0_christmas_45 : decode cX0_christmas 45 = .ok (.istore_n 1, 1) := dk_60 (dk_at dksX0_christmas_1 23 rfl rfl)
theorem dX0_christmas_46 : decode cX0_christmas 46 = .ok (.iinc 2 1, 3) := dk_132 2 1 (dk_at dksX0_christmas_2 0 rfl rfl)
theorem dX0_christmas_49 : decode cX0_christmas 49 = .ok (.goto (-45), 3) := dk_167 255 211 (dk_at dksX0_christmas_2 3 rfl rfl)
theorem dX0_christmas_52 : decode cX0_christmas 52 = .ok (.aload_n 0, 1) := dk_42 (dk_at dksX0_christmas_2 6 rfl rfl)
theorem dX0_christmas_53 : decode cX0_christmas 53 = .ok (.iload_n 1, 1) := dk_27 (dk_at dksX0_christmas_2 7 rfl rfl)
theorem dX0_christmas_54 : decode cX0_christmas 54 = .ok (.invokevirtual 385, 3) := dk_182 1 129 (dk_at dksX0_christmas_2 8 rfl rfl)
theorem dX0_christmas_57 : decode cX0_christmas 57 = .ok (.istore_n 2, 1) := dk_61 (dk_at dksX0_christmas_2 11 rfl rfl)
theorem dX0_christmas_58 : decode cX0_christmas 58 = .ok (.iconst 0, 1) := dk_3 (dk_at dksX0_christmas_2 12 rfl rfl)
theorem dX0_christmas_59 : decode cX0_christmas 59 = .ok (.istore_n 3, 1) := dk_62 (dk_at dksX0_christmas_2 13 rfl rfl)
theorem dX0_christmas_60 : decode cX0_christmas 60 = .ok (.iload_n 3, 1) := dk_29 (dk_at dksX0_christmas_2 14 rfl rfl)
theorem dX0_christmas_61 : decode cX0_christmas 61 = .ok (.bipush 12, 2) := dk_16 12 (dk_at dksX0_christmas_2 15 rfl rfl)
theorem dX0_christmas_63 : decode cX0_christmas 63 = .ok (.if_icmp .ge 61, 3) := dk_162 0 61 (dk_at dksX0_christmas_2 17 rfl rfl)
theorem dX0_christmas_66 : decode cX0_christmas 66 = .ok (.aload_n 0, 1) := dk_42 (dk_at dksX0_christmas_2 20 rfl rfl)
theorem dX0_christmas_67 : decode cX0_christmas 67 = .ok (.getfield 36, 3) := dk_180 0 36 (dk_at dksX0_christmas_2 21 rfl rfl)
theorem dX0_christmas_70 : decode cX0_christmas 70 = .ok (.getfield 186, 3) := dk_180 0 186 (dk_at dksX0_christmas_3 0 rfl rfl)
theorem dX0_christmas_73 : decode cX0_christmas 73 = .ok (.getfield 189, 3) := dk_180 0 189 (dk_at dksX0_christmas_3 3 rfl rfl)
theorem dX0_christmas_76 : decode cX0_christmas 76 = .ok (.iload_n 3, 1) := dk_29 (dk_at dksX0_christmas_3 6 rfl rfl)
theorem dX0_christmas_77 : decode cX0_christmas 77 = .ok (.aload_n 0, 1) := dk_42 (dk_at dksX0_christmas_3 7 rfl rfl)
theorem dX0_christmas_78 : decode cX0_christmas 78 = .ok (.getfield 36, 3) := dk_180 0 36 (dk_at dksX0_christmas_3 8 rfl rfl)
theorem dX0_christmas_81 : decode cX0_christmas 81 = .ok (.getfield 186, 3) := dk_180 0 186 (dk_at dksX0_christmas_3 11 rfl rfl)
theorem dX0_christmas_84 : decode cX0_christmas 84 = .ok (.getfield 189, 3) := dk_180 0 189 (dk_at dksX0_christmas_3 14 rfl rfl)
theorem dX0_christmas_87 : decode cX0_christmas 87 = .ok (.iload_n 3, 1) := dk_29 (dk_at dksX0_christmas_3 17 rfl rfl)
theorem dX0_christmas_88 : decode cX0_christmas 88 = .ok (.iaload, 1) := dk_46 (dk_at dksX0_christmas_3 18 rfl rfl)
theorem dX0_christmas_89 : decode cX0_christmas 89 = .ok (.iconst (-1), 1) := dk_2 (dk_at dksX0_christmas_3 19 rfl rfl)
theorem dX0_christmas_90 : decode cX0_christmas 90 = .ok (.if_icmp .ne 15, 3) := dk_160 0 15 (dk_at dksX0_christmas_3 20 rfl rfl)
theorem dX0_christmas_93 : decode cX0_christmas 93 = .ok (.aload_n 0, 1) := dk_42 (dk_at dksX0_christmas_3 23 rfl rfl)
theorem dX0_christmas_94 : decode cX0_christmas 94 = .ok (.getfield 36, 3) := dk_180 0 36 (dk_at dksX0_christmas_4 0 rfl rfl)
theorem dX0_christmas_97 : decode cX0_christmas 97 = .ok (.bipush 8, 2) := dk_16 8 (dk_at dksX0_christmas_4 3 rfl rfl)
theorem dX0_christmas_99 : decode cX0_christmas 99 = .ok (.invokevirtual 388, 3) := dk_182 1 132 (dk_at dksX0_christmas_4 5 rfl rfl)
theorem dX0_christmas_102 : decode cX0_christmas 102 = .ok (.goto 15, 3) := dk_167 0 15 (dk_at dksX0_christmas_4 8 rfl rfl)
theorem dX0_christmas_105 : decode cX0_christmas 105 = .ok (.aload_n 0, 1) := dk_42 (dk_at dksX0_christmas_4 11 rfl rfl)
theorem dX0_christmas_106 : decode cX0_christmas 106 = .ok (.getfield 36, 3) := dk_180 0 36 (dk_at dksX0_christmas_4 12 rfl rfl)
theorem dX0_christmas_109 : decode cX0_christmas 109 = .ok (.getfield 186, 3) := dk_180 0 186 (dk_at dksX0_christmas_4 15 rfl rfl)
theorem dX0_christmas_112 : decode cX0_christmas 112 = .ok (.getfield 189, 3) := dk_180 0 189 (dk_at dksX0_christmas_4 18 rfl rfl)
theorem dX0_christmas_115 : decode cX0_christmas 115 = .ok (.iload_n 3, 1) := dk_29 (dk_at dksX0_christmas_4 21 rfl rfl)
theorem dX0_christmas_116 : decode cX0_christmas 116 = .ok (.iaload, 1) := dk_46 (dk_at dksX0_christmas_4 22 rfl rfl)
theorem dX0_christmas_117 : decode cX0_christmas 117 = .ok (.iastore, 1) := dk_79 (dk_at dksX0_christmas_4 23 rfl rfl)
theorem dX0_christmas_118 : decode cX0_christmas 118 = .ok (.iinc 3 1, 3) := dk_132 3 1 (dk_at dksX0_christmas_5 0 rfl rfl)
theorem dX0_christmas_121 : decode cX0_christmas 121 = .ok (.goto (-61), 3) := dk_167 255 195 (dk_at dksX0_christmas_5 3 rfl rfl)
theorem dX0_christmas_124 : decode cX0_christmas 124 = .ok (.iload_n 2, 1) := dk_28 (dk_at dksX0_christmas_5 6 rfl rfl)
theorem dX0_christmas_125 : decode cX0_christmas 125 = .ok (.ireturn, 1) := dk_172 (dk_at dksX0_christmas_5 7 rfl rfl)
abbrev cX0_seed : ByteArray := prog_1_method_87_code
def yX0_seed : MethodName := ⟨RX0, "seed", "(I)I"⟩
def dkwX0_seed_0 : List UInt8 := [42, 180, 0, 36, 180, 1, 138, 61, 42, 180, 0, 36, 27, 181, 1, 138, 28, 172]
abbrev dktX0_seed_0 : List UInt8 := dkwX0_seed_0 ++ []
theorem dksX0_seed_0 : cX0_seed.data.toList.drop 0 = dktX0_seed_0 := by decide +kernel
theorem dX0_seed_0 : decode cX0_seed 0 = .ok (.aload_n 0, 1) := dk_42 (dk_at dksX0_seed_0 0 rfl rfl)
theorem dX0_seed_1 : decode cX0_seed 1 = .ok (.getfield 36, 3) := dk_180 0 36 (dk_at dksX0_seed_0 1 rfl rfl)
theorem dX0_seed_4 : decode cX0_seed 4 = .ok (.getfield 394, 3) := dk_180 1 138 (dk_at dksX0_seed_0 4 rfl rfl)
theorem dX0_seed_7 : decode cX0_seed 7 = .ok (.istore_n 2, 1) := dk_61 (dk_at dksX0_seed_0 7 rfl rfl)
theorem dX0_seed_8 : decode cX0_seed 8 = .ok (.aload_n 0, 1) := dk_42 (dk_at dksX0_seed_0 8 rfl rfl)
theorem dX0_seed_9 : decode cX0_seed 9 = .ok (.getfield 36, 3) := dk_180 0 36 (dk_at dksX0_seed_0 9 rfl rfl)
theorem dX0_seed_12 : decode cX0_seed 12 = .ok (.iload_n 1, 1) := dk_27 (dk_at dksX0_seed_0 12 rfl rfl)
theorem dX0_seed_13 : decode cX0_seed 13 = .ok (.putfield 394, 3) := dk_181 1 138 (dk_at dksX0_seed_0 13 rfl rfl)
theorem dX0_seed_16 : decode cX0_seed 16 = .ok (.iload_n 2, 1) := dk_28 (dk_at dksX0_seed_0 16 rfl rfl)
theorem dX0_seed_17 : decode cX0_seed 17 = .ok (.ireturn, 1) := dk_172 (dk_at dksX0_seed_0 17 rfl rfl)
abbrev cX0_image : ByteArray := prog_1_method_88_code
def yX0_image : MethodName := ⟨RX0, "image", "()I"⟩
def dkwX0_image_0 : List UInt8 := [42, 42, 180, 0, 36, 182, 0, 217, 181, 1, 141, 4, 172]
abbrev dktX0_image_0 : List UInt8 := dkwX0_image_0 ++ []
theorem dksX0_image_0 : cX0_image.data.toList.drop 0 = dktX0_image_0 := by decide +kernel
theorem dX0_image_0 : decode cX0_image 0 = .ok (.aload_n 0, 1) := dk_42 (dk_at dksX0_image_0 0 rfl rfl)
theorem dX0_image_1 : decode cX0_image 1 = .ok (.aload_n 0, 1) := dk_42 (dk_at dksX0_image_0 1 rfl rfl)
theorem dX0_image_2 : decode cX0_image 2 = .ok (.getfield 36, 3) := dk_180 0 36 (dk_at dksX0_image_0 2 rfl rfl)
theorem dX0_image_5 : decode cX0_image 5 = .ok (.invokevirtual 217, 3) := dk_182 0 217 (dk_at dksX0_image_0 5 rfl rfl)
theorem dX0_image_8 : decode cX0_image 8 = .ok (.putfield 397, 3) := dk_181 1 141 (dk_at dksX0_image_0 8 rfl rfl)
theorem dX0_image_11 : decode cX0_image 11 = .ok (.iconst 1, 1) := dk_4 (dk_at dksX0_image_0 11 rfl rfl)
theorem dX0_image_12 : decode cX0_image 12 = .ok (.ireturn, 1) := dk_172 (dk_at dksX0_image_0 12 rfl rfl)
abbrev cX0_back : ByteArray := prog_1_method_89_code
def yX0_back : MethodName := ⟨RX0, "back", "()I"⟩
def dkwX0_back_1 : List UInt8 := [182, 0, 230, 4, 172]
abbrev dktX0_back_1 : List UInt8 := dkwX0_back_1 ++ []
def dkwX0_back_0 : List UInt8 := [42, 180, 1, 141, 199, 0, 10, 42, 16, 251, 182, 0, 105, 172, 42, 42, 180, 1, 141, 182, 0, 217]
abbrev dktX0_back_0 : List UInt8 := dkwX0_back_0 ++ dktX0_back_1
theorem dksX0_back_0 : cX0_back.data.toList.drop 0 = dktX0_back_0 := by decide +kernel
theorem dksX0_back_1 : cX0_back.data.toList.drop 22 = dktX0_back_1 := dk_seg dksX0_back_0 22 rfl rfl
theorem dX0_back_0 : decode cX0_back 0 = .ok (.aload_n 0, 1) := dk_42 (dk_at dksX0_back_0 0 rfl rfl)
theorem dX0_back_1 : decode cX0_back 1 = .ok (.getfield 397, 3) := dk_180 1 141 (dk_at dksX0_back_0 1 rfl rfl)
theorem dX0_back_4 : decode cX0_back 4 = .ok (.ifnonnull 10, 3) := dk_199 0 10 (dk_at dksX0_back_0 4 rfl rfl)
theorem dX0_back_7 : decode cX0_back 7 = .ok (.aload_n 0, 1) := dk_42 (dk_at dksX0_back_0 7 rfl rfl)
theorem dX0_back_8 : decode cX0_back 8 = .ok (.bipush (-5), 2) := dk_16 251 (dk_at dksX0_back_0 8 rfl rfl)
theorem dX0_back_10 : decode cX0_back 10 = .ok (.invokevirtual 105, 3) := dk_182 0 105 (dk_at dksX0_back_0 10 rfl rfl)
theorem dX0_back_13 : decode cX0_back 13 = .ok (.ireturn, 1) := dk_172 (dk_at dksX0_back_0 13 rfl rfl)
theorem dX0_back_14 : decode cX0_back 14 = .ok (.aload_n 0, 1) := dk_42 (dk_at dksX0_back_0 14 rfl rfl)
theorem dX0_back_15 : decode cX0_back 15 = .ok (.aload_n 0, 1) := dk_42 (dk_at dksX0_back_0 15 rfl rfl)
theorem dX0_back_16 : decode cX0_back 16 = .ok (.getfield 397, 3) := dk_180 1 141 (dk_at dksX0_back_0 16 rfl rfl)
theorem dX0_back_19 : decode cX0_back 19 = .ok (.invokevirtual 217, 3) := dk_182 0 217 (dk_at dksX0_back_0 19 rfl rfl)
theorem dX0_back_22 : decode cX0_back 22 = .ok (.invokevirtual 230, 3) := dk_182 0 230 (dk_at dksX0_back_1 0 rfl rfl)
theorem dX0_back_25 : decode cX0_back 25 = .ok (.iconst 1, 1) := dk_4 (dk_at dksX0_back_1 3 rfl rfl)
theorem dX0_back_26 : decode cX0_back 26 = .ok (.ireturn, 1) := dk_172 (dk_at dksX0_back_1 4 rfl rfl)
abbrev cX0_status : ByteArray := prog_1_method_93_code
def yX0_status : MethodName := ⟨RX0, "status", "(I)I"⟩
def dkwX0_status_4 : List UInt8 := [180, 0, 36, 180, 1, 138, 172, 42, 182, 1, 150, 172, 2, 172]
abbrev dktX0_status_4 : List UInt8 := dkwX0_status_4 ++ []
def dkwX0_status_3 : List UInt8 := [182, 1, 144, 172, 42, 180, 0, 36, 180, 1, 126, 172, 42, 182, 1, 147, 172, 42, 180, 0, 212, 172, 42]
abbrev dktX0_status_3 : List UInt8 := dkwX0_status_3 ++ dktX0_status_4
def dkwX0_status_2 : List UInt8 := [42, 180, 0, 36, 180, 0, 192, 172, 42, 180, 0, 36, 180, 0, 186, 182, 1, 8, 184, 1, 3, 172, 42]
abbrev dktX0_status_2 : List UInt8 := dkwX0_status_2 ++ dktX0_status_3
def dkwX0_status_1 : List UInt8 := [170, 0, 0, 0, 0, 104, 0, 0, 0, 0, 0, 0, 0, 7, 0, 0, 0, 46, 0, 0, 0, 54, 0, 0, 0, 68, 0, 0, 0, 73, 0, 0, 0, 81, 0, 0, 0, 86, 0, 0, 0, 91, 0, 0, 0, 99]
abbrev dktX0_status_1 : List UInt8 := dkwX0_status_1 ++ dktX0_status_2
def dkwX0_status_0 : List UInt8 := [27, 16, 12, 16, 16, 184, 0, 3, 153, 0, 13, 42, 180, 0, 76, 27, 16, 10, 100, 46, 172, 27]
abbrev dktX0_status_0 : List UInt8 := dkwX0_status_0 ++ dktX0_status_1
theorem dksX0_status_0 : cX0_status.data.toList.drop 0 = dktX0_status_0 := by decide +kernel
theorem dksX0_status_1 : cX0_status.data.toList.drop 22 = dktX0_status_1 := dk_seg dksX0_status_0 22 rfl rfl
theorem dksX0_status_2 : cX0_status.data.toList.drop 68 = dktX0_status_2 := dk_seg dksX0_status_1 46 rfl rfl
theorem dksX0_status_3 : cX0_status.data.toList.drop 91 = dktX0_status_3 := dk_seg dksX0_status_2 23 rfl rfl
theorem dksX0_status_4 : cX0_status.data.toList.drop 114 = dktX0_status_4 := dk_seg dksX0_status_3 23 rfl rfl
theorem dX0_status_0 : decode cX0_status 0 = .ok (.iload_n 1, 1) := dk_27 (dk_at dksX0_status_0 0 rfl rfl)
theorem dX0_status_1 : decode cX0_status 1 = .ok (.bipush 12, 2) := dk_16 12 (dk_at dksX0_status_0 1 rfl rfl)
theorem dX0_status_3 : decode cX0_status 3 = .ok (.bipush 16, 2) := dk_16 16 (dk_at dksX0_status_0 3 rfl rfl)
theorem dX0_status_5 : decode cX0_status 5 = .ok (.invokestatic 3, 3) := dk_184 0 3 (dk_at dksX0_status_0 5 rfl rfl)
theorem dX0_status_8 : decode cX0_status 8 = .ok (.ifCond .eq 13, 3) := dk_153 0 13 (dk_at dksX0_status_0 8 rfl rfl)
theorem dX0_status_11 : decode cX0_status 11 = .ok (.aload_n 0, 1) := dk_42 (dk_at dksX0_status_0 11 rfl rfl)
theorem dX0_status_12 : decode cX0_status 12 = .ok (.getfield 76, 3) := dk_180 0 76 (dk_at dksX0_status_0 12 rfl rfl)
theorem dX0_status_15 : decode cX0_status 15 = .ok (.iload_n 1, 1) := dk_27 (dk_at dksX0_status_0 15 rfl rfl)
theorem dX0_status_16 : decode cX0_status 16 = .ok (.bipush 10, 2) := dk_16 10 (dk_at dksX0_status_0 16 rfl rfl)
theorem dX0_status_18 : decode cX0_status 18 = .ok (.isub, 1) := dk_100 (dk_at dksX0_status_0 18 rfl rfl)
theorem dX0_status_19 : decode cX0_status 19 = .ok (.iaload, 1) := dk_46 (dk_at dksX0_status_0 19 rfl rfl)
theorem dX0_status_20 : decode cX0_status 20 = .ok (.ireturn, 1) := dk_172 (dk_at dksX0_status_0 20 rfl rfl)
theorem dX0_status_21 : decode cX0_status 21 = .ok (.iload_n 1, 1) := dk_27 (dk_at dksX0_status_0 21 rfl rfl)
theorem dX0_status_22 : decode cX0_status 22 = .ok (.tableswitch 104 0 7 #[46, 54, 68, 73, 81, 86, 91, 99], 46) := by decide +kernel
theorem dX0_status_68 : decode cX0_status 68 = .ok (.aload_n 0, 1) := dk_42 (dk_at dksX0_status_2 0 rfl rfl)
theorem dX0_status_69 : decode cX0_status 69 = .ok (.getfield 36, 3) := dk_180 0 36 (dk_at dksX0_status_2 1 rfl rfl)
theorem dX0_status_72 : decode cX0_status 72 = .ok (.getfield 192, 3) := dk_180 0 192 (dk_at dksX0_status_2 4 rfl rfl)
theorem dX0_status_75 : decode cX0_status 75 = .ok (.ireturn, 1) := dk_172 (dk_at dksX0_status_2 7 rfl rfl)
theorem dX0_status_76 : decode cX0_status 76 = .ok (.aload_n 0, 1) := dk_42 (dk_at dksX0_status_2 8 rfl rfl)
theorem dX0_status_77 : decode cX0_status 77 = .ok (.getfield 36, 3) := dk_180 0 36 (dk_at dksX0_status_2 9 rfl rfl)
theorem dX0_status_80 : decode cX0_status 80 = .ok (.getfield 186, 3) := dk_180 0 186 (dk_at dksX0_status_2 12 rfl rfl)
theorem dX0_status_83 : decode cX0_status 83 = .ok (.invokevirtual 264, 3) := dk_182 1 8 (dk_at dksX0_status_2 15 rfl rfl)
theorem dX0_status_86 : decode cX0_status 86 = .ok (.invokestatic 259, 3) := dk_184 1 3 (dk_at dksX0_status_2 18 rfl rfl)
theorem dX0_status_89 : decode cX0_status 89 = .ok (.ireturn, 1) := dk_172 (dk_at dksX0_status_2 21 rfl rfl)
theorem dX0_status_90 : decode cX0_status 90 = .ok (.aload_n 0, 1) := dk_42 (dk_at dksX0_status_2 22 rfl rfl)
theorem dX0_status_91 : decode cX0_status 91 = .ok (.invokevirtual 400, 3) := dk_182 1 144 (dk_at dksX0_status_3 0 rfl rfl)
theorem dX0_status_94 : decode cX0_status 94 = .ok (.ireturn, 1) := dk_172 (dk_at dksX0_status_3 3 rfl rfl)
theorem dX0_status_95 : decode cX0_status 95 = .ok (.aload_n 0, 1) := dk_42 (dk_at dksX0_status_3 4 rfl rfl)
theorem dX0_status_96 : decode cX0_status 96 = .ok (.getfield 36, 3) := dk_180 0 36 (dk_at dksX0_status_3 5 rfl rfl)
theorem dX0_status_99 : decode cX0_status 99 = .ok (.getfield 382, 3) := dk_180 1 126 (dk_at dksX0_status_3 8 rfl rfl)
theorem dX0_status_102 : decode cX0_status 102 = .ok (.ireturn, 1) := dk_172 (dk_at dksX0_status_3 11 rfl rfl)
theorem dX0_status_103 : decode cX0_status 103 = .ok (.aload_n 0, 1) := dk_42 (dk_at dksX0_status_3 12 rfl rfl)
theorem dX0_status_104 : decode cX0_status 104 = .ok (.invokevirtual 403, 3) := dk_182 1 147 (dk_at dksX0_status_3 13 rfl rfl)
theorem dX0_status_107 : decode cX0_status 107 = .ok (.ireturn, 1) := dk_172 (dk_at dksX0_status_3 16 rfl rfl)
theorem dX0_status_108 : decode cX0_status 108 = .ok (.aload_n 0, 1) := dk_42 (dk_at dksX0_status_3 17 rfl rfl)
theorem dX0_status_109 : decode cX0_status 109 = .ok (.getfield 212, 3) := dk_180 0 212 (dk_at dksX0_status_3 18 rfl rfl)
theorem dX0_status_112 : decode cX0_status 112 = .ok (.ireturn, 1) := dk_172 (dk_at dksX0_status_3 21 rfl rfl)
theorem dX0_status_113 : decode cX0_status 113 = .ok (.aload_n 0, 1) := dk_42 (dk_at dksX0_status_3 22 rfl rfl)
theorem dX0_status_114 : decode cX0_status 114 = .ok (.getfield 36, 3) := dk_180 0 36 (dk_at dksX0_status_4 0 rfl rfl)
theorem dX0_status_117 : decode cX0_status 117 = .ok (.getfield 394, 3) := dk_180 1 138 (dk_at dksX0_status_4 3 rfl rfl)
theorem dX0_status_120 : decode cX0_status 120 = .ok (.ireturn, 1) := dk_172 (dk_at dksX0_status_4 6 rfl rfl)
theorem dX0_status_121 : decode cX0_status 121 = .ok (.aload_n 0, 1) := dk_42 (dk_at dksX0_status_4 7 rfl rfl)
theorem dX0_status_122 : decode cX0_status 122 = .ok (.invokevirtual 406, 3) := dk_182 1 150 (dk_at dksX0_status_4 8 rfl rfl)
theorem dX0_status_125 : decode cX0_status 125 = .ok (.ireturn, 1) := dk_172 (dk_at dksX0_status_4 11 rfl rfl)
theorem dX0_status_126 : decode cX0_status 126 = .ok (.iconst (-1), 1) := dk_2 (dk_at dksX0_status_4 12 rfl rfl)
theorem dX0_status_127 : decode cX0_status 127 = .ok (.ireturn, 1) := dk_172 (dk_at dksX0_status_4 13 rfl rfl)
abbrev cX0_allThings : ByteArray := prog_1_method_91_code
def yX0_allThings : MethodName := ⟨RX0, "allThings", "()I"⟩
def dkwX0_allThings_1 : List UInt8 := [96, 60, 132, 2, 1, 167, 255, 231, 27, 172]
abbrev dktX0_allThings_1 : List UInt8 := dkwX0_allThings_1 ++ []
def dkwX0_allThings_0 : List UInt8 := [3, 60, 3, 61, 28, 42, 180, 0, 36, 180, 0, 192, 162, 0, 20, 27, 42, 180, 0, 36, 28, 182, 1, 86]
abbrev dktX0_allThings_0 : List UInt8 := dkwX0_allThings_0 ++ dktX0_allThings_1
theorem dksX0_allThings_0 : cX0_allThings.data.toList.drop 0 = dktX0_allThings_0 := by decide +kernel
theorem dksX0_allThings_1 : cX0_allThings.data.toList.drop 24 = dktX0_allThings_1 := dk_seg dksX0_allThings_0 24 rfl rfl
theorem dX0_allThings_0 : decode cX0_allThings 0 = .ok (.iconst 0, 1) := dk_3 (dk_at dksX0_allThings_0 0 rfl rfl)
theorem dX0_allThings_1 : decode cX0_allThings 1 = .ok (.istore_n 1, 1) := dk_60 (dk_at dksX0_allThings_0 1 rfl rfl)
theorem dX0_allThings_2 : decode cX0_allThings 2 = .ok (.iconst 0, 1) := dk_3 (dk_at dksX0_allThings_0 2 rfl rfl)
theorem dX0_allThings_3 : decode cX0_allThings 3 = .ok (.istore_n 2, 1) := dk_61 (dk_at dksX0_allThings_0 3 rfl rfl)
theorem dX0_allThings_4 : decode cX0_allThings 4 = .ok (.iload_n 2, 1) := dk_28 (dk_at dksX0_allThings_0 4 rfl rfl)
theorem dX0_allThings_5 : decode cX0_allThings 5 = .ok (.aload_n 0, 1) := dk_42 (dk_at dksX0_allThings_0 5 rfl rfl)
theorem dX0_allThings_6 : decode cX0_allThings 6 = .ok (.getfield 36, 3) := dk_180 0 36 (dk_at dksX0_allThings_0 6 rfl rfl)
theorem dX0_allThings_9 : decode cX0_allThings 9 = .ok (.getfield 192, 3) := dk_180 0 192 (dk_at dksX0_allThings_0 9 rfl rfl)
theorem dX0_allThings_12 : decode cX0_allThings 12 = .ok (.if_icmp .ge 20, 3) := dk_162 0 20 (dk_at dksX0_allThings_0 12 rfl rfl)
theorem dX0_allThings_15 : decode cX0_allThings 15 = .ok (.iload_n 1, 1) := dk_27 (dk_at dksX0_allThings_0 15 rfl rfl)
theorem dX0_allThings_16 : decode cX0_allThings 16 = .ok (.aload_n 0, 1) := dk_42 (dk_at dksX0_allThings_0 16 rfl rfl)
theorem dX0_allThings_17 : decode cX0_allThings 17 = .ok (.getfield 36, 3) := dk_180 0 36 (dk_at dksX0_allThings_0 17 rfl rfl)
theorem dX0_allThings_20 : decode cX0_allThings 20 = .ok (.iload_n 2, 1) := dk_28 (dk_at dksX0_allThings_0 20 rfl rfl)
theorem dX0_allThings_21 : decode cX0_allThings 21 = .ok (.invokevirtual 342, 3) := dk_182 1 86 (dk_at dksX0_allThings_0 21 rfl rfl)
theorem dX0_allThings_24 : decode cX0_allThings 24 = .ok (.iadd, 1) := dk_96 (dk_at dksX0_allThings_1 0 rfl rfl)
theorem dX0_allThings_25 : decode cX0_allThings 25 = .ok (.istore_n 1, 1) := dk_60 (dk_at dksX0_allThings_1 1 rfl rfl)
theorem dX0_allThings_26 : decode cX0_allThings 26 = .ok (.iinc 2 1, 3) := dk_132 2 1 (dk_at dksX0_allThings_1 2 rfl rfl)
theorem dX0_allThings_29 : decode cX0_allThings 29 = .ok (.goto (-25), 3) := dk_167 255 231 (dk_at dksX0_allThings_1 5 rfl rfl)
theorem dX0_allThings_32 : decode cX0_allThings 32 = .ok (.iload_n 1, 1) := dk_27 (dk_at dksX0_allThings_1 8 rfl rfl)
theorem dX0_allThings_33 : decode cX0_allThings 33 = .ok (.ireturn, 1) := dk_172 (dk_at dksX0_allThings_1 9 rfl rfl)
abbrev cX0_shining : ByteArray := prog_1_method_92_code
def yX0_shining : MethodName := ⟨RX0, "shining", "()I"⟩
def dkwX0_shining_1 : List UInt8 := [46, 2, 159, 0, 7, 4, 167, 0, 4, 3, 96, 60, 132, 2, 1, 167, 255, 221, 27, 172]
abbrev dktX0_shining_1 : List UInt8 := dkwX0_shining_1 ++ []
def dkwX0_shining_0 : List UInt8 := [3, 60, 3, 61, 28, 42, 180, 0, 36, 180, 0, 192, 162, 0, 30, 27, 42, 180, 0, 36, 180, 0, 209, 28]
abbrev dktX0_shining_0 : List UInt8 := dkwX0_shining_0 ++ dktX0_shining_1
theorem dksX0_shining_0 : cX0_shining.data.toList.drop 0 = dktX0_shining_0 := by decide +kernel
theorem dksX0_shining_1 : cX0_shining.data.toList.drop 24 = dktX0_shining_1 := dk_seg dksX0_shining_0 24 rfl rfl
theorem dX0_shining_0 : decode cX0_shining 0 = .ok (.iconst 0, 1) := dk_3 (dk_at dksX0_shining_0 0 rfl rfl)
theorem dX0_shining_1 : decode cX0_shining 1 = .ok (.istore_n 1, 1) := dk_60 (dk_at dksX0_shining_0 1 rfl rfl)
theorem dX0_shining_2 : decode cX0_shining 2 = .ok (.iconst 0, 1) := dk_3 (dk_at dksX0_shining_0 2 rfl rfl)
theorem dX0_shining_3 : decode cX0_shining 3 = .ok (.istore_n 2, 1) := dk_61 (dk_at dksX0_shining_0 3 rfl rfl)
theorem dX0_shining_4 : decode cX0_shining 4 = .ok (.iload_n 2, 1) := dk_28 (dk_at dksX0_shining_0 4 rfl rfl)
theorem dX0_shining_5 : decode cX0_shining 5 = .ok (.aload_n 0, 1) := dk_42 (dk_at dksX0_shining_0 5 rfl rfl)
theorem dX0_shining_6 : decode cX0_shining 6 = .ok (.getfield 36, 3) := dk_180 0 36 (dk_at dksX0_shining_0 6 rfl rfl)
theorem dX0_shining_9 : decode cX0_shining 9 = .ok (.getfield 192, 3) := dk_180 0 192 (dk_at dksX0_shining_0 9 rfl rfl)
theorem dX0_shining_12 : decode cX0_shining 12 = .ok (.if_icmp .ge 30, 3) := dk_162 0 30 (dk_at dksX0_shining_0 12 rfl rfl)
theorem dX0_shining_15 : decode cX0_shining 15 = .ok (.iload_n 1, 1) := dk_27 (dk_at dksX0_shining_0 15 rfl rfl)
theorem dX0_shining_16 : decode cX0_shining 16 = .ok (.aload_n 0, 1) := dk_42 (dk_at dksX0_shining_0 16 rfl rfl)
theorem dX0_shining_17 : decode cX0_shining 17 = .ok (.getfield 36, 3) := dk_180 0 36 (dk_at dksX0_shining_0 17 rfl rfl)
theorem dX0_shining_20 : decode cX0_shining 20 = .ok (.getfield 209, 3) := dk_180 0 209 (dk_at dksX0_shining_0 20 rfl rfl)
theorem dX0_shining_23 : decode cX0_shining 23 = .ok (.iload_n 2, 1) := dk_28 (dk_at dksX0_shining_0 23 rfl rfl)
theorem dX0_shining_24 : decode cX0_shining 24 = .ok (.iaload, 1) := dk_46 (dk_at dksX0_shining_1 0 rfl rfl)
theorem dX0_shining_25 : decode cX0_shining 25 = .ok (.iconst (-1), 1) := dk_2 (dk_at dksX0_shining_1 1 rfl rfl)
theorem dX0_shining_26 : decode cX0_shining 26 = .ok (.if_icmp .eq 7, 3) := dk_159 0 7 (dk_at dksX0_shining_1 2 rfl rfl)
theorem dX0_shining_29 : decode cX0_shining 29 = .ok (.iconst 1, 1) := dk_4 (dk_at dksX0_shining_1 5 rfl rfl)
theorem dX0_shining_30 : decode cX0_shining 30 = .ok (.goto 4, 3) := dk_167 0 4 (dk_at dksX0_shining_1 6 rfl rfl)
theorem dX0_shining_33 : decode cX0_shining 33 = .ok (.iconst 0, 1) := dk_3 (dk_at dksX0_shining_1 9 rfl rfl)
theorem dX0_shining_34 : decode cX0_shining 34 = .ok (.iadd, 1) := dk_96 (dk_at dksX0_shining_1 10 rfl rfl)
theorem dX0_shining_35 : decode cX0_shining 35 = .ok (.istore_n 1, 1) := dk_60 (dk_at dksX0_shining_1 11 rfl rfl)
theorem dX0_shining_36 : decode cX0_shining 36 = .ok (.iinc 2 1, 3) := dk_132 2 1 (dk_at dksX0_shining_1 12 rfl rfl)
theorem dX0_shining_39 : decode cX0_shining 39 = .ok (.goto (-35), 3) := dk_167 255 221 (dk_at dksX0_shining_1 15 rfl rfl)
theorem dX0_shining_42 : decode cX0_shining 42 = .ok (.iload_n 1, 1) := dk_27 (dk_at dksX0_shining_1 18 rfl rfl)
theorem dX0_shining_43 : decode cX0_shining 43 = .ok (.ireturn, 1) := dk_172 (dk_at dksX0_shining_1 19 rfl rfl)
abbrev cX0_shelved : ByteArray := prog_1_method_90_code
def yX0_shelved : MethodName := ⟨RX0, "shelved", "()I"⟩
def dkwX0_shelved_1 : List UInt8 := [167, 0, 4, 3, 96, 60, 132, 2, 1, 167, 255, 227, 27, 172]
abbrev dktX0_shelved_1 : List UInt8 := dkwX0_shelved_1 ++ []
def dkwX0_shelved_0 : List UInt8 := [3, 60, 3, 61, 28, 16, 8, 162, 0, 29, 27, 42, 180, 0, 69, 28, 50, 180, 0, 113, 198, 0, 7, 4]
abbrev dktX0_shelved_0 : List UInt8 := dkwX0_shelved_0 ++ dktX0_shelved_1
theorem dksX0_shelved_0 : cX0_shelved.data.toList.drop 0 = dktX0_shelved_0 := by decide +kernel
theorem dksX0_shelved_1 : cX0_shelved.data.toList.drop 24 = dktX0_shelved_1 := dk_seg dksX0_shelved_0 24 rfl rfl
theorem dX0_shelved_0 : decode cX0_shelved 0 = .ok (.iconst 0, 1) := dk_3 (dk_at dksX0_shelved_0 0 rfl rfl)
theorem dX0_shelved_1 : decode cX0_shelved 1 = .ok (.istore_n 1, 1) := dk_60 (dk_at dksX0_shelved_0 1 rfl rfl)
theorem dX0_shelved_2 : decode cX0_shelved 2 = .ok (.iconst 0, 1) := dk_3 (dk_at dksX0_shelved_0 2 rfl rfl)
theorem dX0_shelved_3 : decode cX0_shelved 3 = .ok (.istore_n 2, 1) := dk_61 (dk_at dksX0_shelved_0 3 rfl rfl)
theorem dX0_shelved_4 : decode cX0_shelved 4 = .ok (.iload_n 2, 1) := dk_28 (dk_at dksX0_shelved_0 4 rfl rfl)
theorem dX0_shelved_5 : decode cX0_shelved 5 = .ok (.bipush 8, 2) := dk_16 8 (dk_at dksX0_shelved_0 5 rfl rfl)
theorem dX0_shelved_7 : decode cX0_shelved 7 = .ok (.if_icmp .ge 29, 3) := dk_162 0 29 (dk_at dksX0_shelved_0 7 rfl rfl)
theorem dX0_shelved_10 : decode cX0_shelved 10 = .ok (.iload_n 1, 1) := dk_27 (dk_at dksX0_shelved_0 10 rfl rfl)
theorem dX0_shelved_11 : decode cX0_shelved 11 = .ok (.aload_n 0, 1) := dk_42 (dk_at dksX0_shelved_0 11 rfl rfl)
theorem dX0_shelved_12 : decode cX0_shelved 12 = .ok (.getfield 69, 3) := dk_180 0 69 (dk_at dksX0_shelved_0 12 rfl rfl)
theorem dX0_shelved_15 : decode cX0_shelved 15 = .ok (.iload_n 2, 1) := dk_28 (dk_at dksX0_shelved_0 15 rfl rfl)
theorem dX0_shelved_16 : decode cX0_shelved 16 = .ok (.aaload, 1) := dk_50 (dk_at dksX0_shelved_0 16 rfl rfl)
theorem dX0_shelved_17 : decode cX0_shelved 17 = .ok (.getfield 113, 3) := dk_180 0 113 (dk_at dksX0_shelved_0 17 rfl rfl)
theorem dX0_shelved_20 : decode cX0_shelved 20 = .ok (.ifnull 7, 3) := dk_198 0 7 (dk_at dksX0_shelved_0 20 rfl rfl)
theorem dX0_shelved_23 : decode cX0_shelved 23 = .ok (.iconst 1, 1) := dk_4 (dk_at dksX0_shelved_0 23 rfl rfl)
theorem dX0_shelved_24 : decode cX0_shelved 24 = .ok (.goto 4, 3) := dk_167 0 4 (dk_at dksX0_shelved_1 0 rfl rfl)
theorem dX0_shelved_27 : decode cX0_shelved 27 = .ok (.iconst 0, 1) := dk_3 (dk_at dksX0_shelved_1 3 rfl rfl)
theorem dX0_shelved_28 : decode cX0_shelved 28 = .ok (.iadd, 1) := dk_96 (dk_at dksX0_shelved_1 4 rfl rfl)
theorem dX0_shelved_29 : decode cX0_shelved 29 = .ok (.istore_n 1, 1) := dk_60 (dk_at dksX0_shelved_1 5 rfl rfl)
theorem dX0_shelved_30 : decode cX0_shelved 30 = .ok (.iinc 2 1, 3) := dk_132 2 1 (dk_at dksX0_shelved_1 6 rfl rfl)
theorem dX0_shelved_33 : decode cX0_shelved 33 = .ok (.goto (-29), 3) := dk_167 255 227 (dk_at dksX0_shelved_1 9 rfl rfl)
theorem dX0_shelved_36 : decode cX0_shelved 36 = .ok (.iload_n 1, 1) := dk_27 (dk_at dksX0_shelved_1 12 rfl rfl)
theorem dX0_shelved_37 : decode cX0_shelved 37 = .ok (.ireturn, 1) := dk_172 (dk_at dksX0_shelved_1 13 rfl rfl)
