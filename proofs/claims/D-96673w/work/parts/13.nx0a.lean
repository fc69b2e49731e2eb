set_option maxRecDepth 100000
abbrev cX0_init : ByteArray := prog_1_method_6_code
def yX0_init : MethodName := ⟨RX0, "<init>", "()V"⟩
def dkwX0_init_5 : List UInt8 := [183, 0, 79, 83, 132, 1, 1, 167, 255, 234, 177]
abbrev dktX0_init_5 : List UInt8 := dkwX0_init_5 ++ []
def dkwX0_init_4 : List UInt8 := [188, 10, 181, 0, 76, 3, 60, 27, 16, 8, 162, 0, 22, 42, 180, 0, 69, 27, 187, 0, 67, 89]
abbrev dktX0_init_4 : List UInt8 := dkwX0_init_4 ++ dktX0_init_5
def dkwX0_init_3 : List UInt8 := [181, 0, 64, 42, 16, 8, 189, 0, 67, 181, 0, 69, 42, 17, 0, 250, 188, 10, 181, 0, 73, 42, 16, 7]
abbrev dktX0_init_3 : List UInt8 := dkwX0_init_3 ++ dktX0_init_4
def dkwX0_init_2 : List UInt8 := [181, 0, 53, 42, 6, 188, 10, 181, 0, 57, 42, 16, 8, 188, 10, 181, 0, 61, 42, 16, 8, 188, 10]
abbrev dktX0_init_2 : List UInt8 := dkwX0_init_2 ++ dktX0_init_3
def dkwX0_init_1 : List UInt8 := [181, 0, 40, 42, 187, 0, 43, 89, 183, 0, 45, 181, 0, 46, 42, 187, 0, 50, 89, 183, 0, 52]
abbrev dktX0_init_1 : List UInt8 := dkwX0_init_1 ++ dktX0_init_2
def dkwX0_init_0 : List UInt8 := [42, 183, 0, 28, 42, 187, 0, 33, 89, 183, 0, 35, 181, 0, 36, 42, 187, 0, 33, 89, 183, 0, 35]
abbrev dktX0_init_0 : List UInt8 := dkwX0_init_0 ++ dktX0_init_1
theorem dksX0_init_0 : cX0_init.data.toList.drop 0 = dktX0_init_0 := by decide +kernel
theorem dksX0_init_1 : cX0_init.data.toList.drop 23 = dktX0_init_1 := dk_seg dksX0_init_0 23 rfl rfl
theorem dksX0_init_2 : cX0_init.data.toList.drop 45 = dktX0_init_2 := dk_seg dksX0_init_1 22 rfl rfl
theorem dksX0_init_3 : cX0_init.data.toList.drop 68 = dktX0_init_3 := dk_seg dksX0_init_2 23 rfl rfl
theorem dksX0_init_4 : cX0_init.data.toList.drop 92 = dktX0_init_4 := dk_seg dksX0_init_3 24 rfl rfl
theorem dksX0_init_5 : cX0_init.data.toList.drop 114 = dktX0_init_5 := dk_seg dksX0_init_4 22 rfl rfl
theorem dX0_init_0 : decode cX0_init 0 = .ok (.aload_n 0, 1) := dk_42 (dk_at dksX0_init_0 0 rfl rfl)
theorem dX0_init_1 : decode cX0_init 1 = .ok (.invokespecial 28, 3) := dk_183 0 28 (dk_at dksX0_init_0 1 rfl rfl)
theorem dX0_init_4 : decode cX0_init 4 = .ok (.aload_n 0, 1) := dk_42 (dk_at dksX0_init_0 4 rfl rfl)
theorem dX0_init_5 : decode cX0_init 5 = .ok (.new 33, 3) := dk_187 0 33 (dk_at dksX0_init_0 5 rfl rfl)
theorem dX0_init_8 : decode cX0_init 8 = .ok (.dup, 1) := dk_89 (dk_at dksX0_init_0 8 rfl rfl)
theorem dX0_init_9 : decode cX0_init 9 = .ok (.invokespecial 35, 3) := dk_183 0 35 (dk_at dksX0_init_0 9 rfl rfl)
theorem dX0_init_12 : decode cX0_init 12 = .ok (.putfield 36, 3) := dk_181 0 36 (dk_at dksX0_init_0 12 rfl rfl)
theorem dX0_init_15 : decode cX0_init 15 = .ok (.aload_n 0, 1) := dk_42 (dk_at dksX0_init_0 15 rfl rfl)
theorem dX0_init_16 : decode cX0_init 16 = .ok (.new 33, 3) := dk_187 0 33 (dk_at dksX0_init_0 16 rfl rfl)
theorem dX0_init_19 : decode cX0_init 19 = .ok (.dup, 1) := dk_89 (dk_at dksX0_init_0 19 rfl rfl)
theorem dX0_init_20 : decode cX0_init 20 = .ok (.invokespecial 35, 3) := dk_183 0 35 (dk_at dksX0_init_0 20 rfl rfl)
theorem dX0_init_23 : decode cX0_init 23 = .ok (.putfield 40, 3) := dk_181 0 40 (dk_at dksX0_init_1 0 rfl rfl)
theorem dX0_init_26 : decode cX0_init 26 = .ok (.aload_n 0, 1) := dk_42 (dk_at dksX0_init_1 3 rfl rfl)
theorem dX0_init_27 : decode cX0_init 27 = .ok (.new 43, 3) := dk_187 0 43 (dk_at dksX0_init_1 4 rfl rfl)
theorem dX0_init_30 : decode cX0_init 30 = .ok (.dup, 1) := dk_89 (dk_at dksX0_init_1 7 rfl rfl)
theorem dX0_init_31 : decode cX0_init 31 = .ok (.invokespecial 45, 3) := dk_183 0 45 (dk_at dksX0_init_1 8 rfl rfl)
theorem dX0_init_34 : decode cX0_init 34 = .ok (.putfield 46, 3) := dk_181 0 46 (dk_at dksX0_init_1 11 rfl rfl)
theorem dX0_init_37 : decode cX0_init 37 = .ok (.aload_n 0, 1) := dk_42 (dk_at dksX0_init_1 14 rfl rfl)
theorem dX0_init_38 : decode cX0_init 38 = .ok (.new 50, 3) := dk_187 0 50 (dk_at dksX0_init_1 15 rfl rfl)
theorem dX0_init_41 : decode cX0_init 41 = .ok (.dup, 1) := dk_89 (dk_at dksX0_init_1 18 rfl rfl)
theorem dX0_init_42 : decode cX0_init 42 = .ok (.invokespecial 52, 3) := dk_183 0 52 (dk_at dksX0_init_1 19 rfl rfl)
theorem dX0_init_45 : decode cX0_init 45 = .ok (.putfield 53, 3) := dk_181 0 53 (dk_at dksX0_init_2 0 rfl rfl)
theorem dX0_init_48 : decode cX0_init 48 = .ok (.aload_n 0, 1) := dk_42 (dk_at dksX0_init_2 3 rfl rfl)
theorem dX0_init_49 : decode cX0_init 49 = .ok (.iconst 3, 1) := dk_6 (dk_at dksX0_init_2 4 rfl rfl)
theorem dX0_init_50 : decode cX0_init 50 = .ok (.newarray .int, 2) := dk_188_10 (dk_at dksX0_init_2 5 rfl rfl)
theorem dX0_init_52 : decode cX0_init 52 = .ok (.putfield 57, 3) := dk_181 0 57 (dk_at dksX0_init_2 7 rfl rfl)
theorem dX0_init_55 : decode cX0_init 55 = .ok (.aload_n 0, 1) := dk_42 (dk_at dksX0_init_2 10 rfl rfl)
theorem dX0_init_56 : decode cX0_init 56 = .ok (.bipush 8, 2) := dk_16 8 (dk_at dksX0_init_2 11 rfl rfl)
theorem dX0_init_58 : decode cX0_init 58 = .ok (.newarray .int, 2) := dk_188_10 (dk_at dksX0_init_2 13 rfl rfl)
theorem dX0_init_60 : decode cX0_init 60 = .ok (.putfield 61, 3) := dk_181 0 61 (dk_at dksX0_init_2 15 rfl rfl)
theorem dX0_init_63 : decode cX0_init 63 = .ok (.aload_n 0, 1) := dk_42 (dk_at dksX0_init_2 18 rfl rfl)
theorem dX0_init_64 : decode cX0_init 64 = .ok (.bipush 8, 2) := dk_16 8 (dk_at dksX0_init_2 19 rfl rfl)
theorem dX0_init_66 : decode cX0_init 66 = .ok (.newarray .int, 2) := dk_188_10 (dk_at dksX0_init_2 21 rfl rfl)
theorem dX0_init_68 : decode cX0_init 68 = .ok (.putfield 64, 3) := dk_181 0 64 (dk_at dksX0_init_3 0 rfl rfl)
theorem dX0_init_71 : decode cX0_init 71 = .ok (.aload_n 0, 1) := dk_42 (dk_at dksX0_init_3 3 rfl rfl)
theorem dX0_init_72 : decode cX0_init 72 = .ok (.bipush 8, 2) := dk_16 8 (dk_at dksX0_init_3 4 rfl rfl)
theorem dX0_init_74 : decode cX0_init 74 = .ok (.anewarray 67, 3) := dk_189 0 67 (dk_at dksX0_init_3 6 rfl rfl)
theorem dX0_init_77 : decode cX0_init 77 = .ok (.putfield 69, 3) := dk_181 0 69 (dk_at dksX0_init_3 9 rfl rfl)
theorem dX0_init_80 : decode cX0_init 80 = .ok (.aload_n 0, 1) := dk_42 (dk_at dksX0_init_3 12 rfl rfl)
theorem dX0_init_81 : decode cX0_init 81 = .ok (.sipush 250, 3) := dk_17 0 250 (dk_at dksX0_init_3 13 rfl rfl)
theorem dX0_init_84 : decode cX0_init 84 = .ok (.newarray .int, 2) := dk_188_10 (dk_at dksX0_init_3 16 rfl rfl)
theorem dX0_init_86 : decode cX0_init 86 = .ok (.putfield 73, 3) := dk_181 0 73 (dk_at dksX0_init_3 18 rfl rfl)
theorem dX0_init_89 : decode cX0_init 89 = .ok (.aload_n 0, 1) := dk_42 (dk_at dksX0_init_3 21 rfl rfl)
theorem dX0_init_90 : decode cX0_init 90 = .ok (.bipush 7, 2) := dk_16 7 (dk_at dksX0_init_3 22 rfl rfl)
theorem dX0_init_92 : decode cX0_init 92 = .ok (.newarray .int, 2) := dk_188_10 (dk_at dksX0_init_4 0 rfl rfl)
theorem dX0_init_94 : decode cX0_init 94 = .ok (.putfield 76, 3) := dk_181 0 76 (dk_at dksX0_init_4 2 rfl rfl)
theorem dX0_init_97 : decode cX0_init 97 = .ok (.iconst 0, 1) := dk_3 (dk_at dksX0_init_4 5 rfl rfl)
theorem dX0_init_98 : decode cX0_init 98 = .ok (.istore_n 1, 1) := dk_60 (dk_at dksX0_init_4 6 rfl rfl)
theorem dX0_init_99 : decode cX0_init 99 = .ok (.iload_n 1, 1) := dk_27 (dk_at dksX0_init_4 7 rfl rfl)
theorem dX0_init_100 : decode cX0_init 100 = .ok (.bipush 8, 2) := dk_16 8 (dk_at dksX0_init_4 8 rfl rfl)
theorem dX0_init_102 : decode cX0_init 102 = .ok (.if_icmp .ge 22, 3) := dk_162 0 22 (dk_at dksX0_init_4 10 rfl rfl)
theorem dX0_init_105 : decode cX0_init 105 = .ok (.aload_n 0, 1) := dk_42 (dk_at dksX0_init_4 13 rfl rfl)
theorem dX0_init_106 : decode cX0_init 106 = .ok (.getfield 69, 3) := dk_180 0 69 (dk_at dksX0_init_4 14 rfl rfl)
theorem dX0_init_109 : decode cX0_init 109 = .ok (.iload_n 1, 1) := dk_27 (dk_at dksX0_init_4 17 rfl rfl)
theorem dX0_init_110 : decode cX0_init 110 = .ok (.new 67, 3) := dk_187 0 67 (dk_at dksX0_init_4 18 rfl rfl)
theorem dX0_init_113 : decode cX0_init 113 = .ok (.dup, 1) := dk_89 (dk_at dksX0_init_4 21 rfl rfl)
theorem dX0_init_114 : decode cX0_init 114 = .ok (.invokespecial 79, 3) := dk_183 0 79 (dk_at dksX0_init_5 0 rfl rfl)
theorem dX0_init_117 : decode cX0_init 117 = .ok (.aastore, 1) := dk_83 (dk_at dksX0_init_5 3 rfl rfl)
theorem dX0_init_118 : decode cX0_init 118 = .ok (.iinc 1 1, 3) := dk_132 1 1 (dk_at dksX0_init_5 4 rfl rfl)
theorem dX0_init_121 : decode cX0_init 121 = .ok (.goto (-22), 3) := dk_167 255 234 (dk_at dksX0_init_5 7 rfl rfl)
theorem dX0_init_124 : decode cX0_init 124 = .ok (.return_, 1) := dk_177 (dk_at dksX0_init_5 10 rfl rfl)
abbrev cX0_row : ByteArray := prog_1_method_15_code
def yX0_row : MethodName := ⟨RX0, "row", "(III)I"⟩
def dkwX0_row_2 : List UInt8 := [58, 4, 42, 16, 254, 182, 0, 105, 172, 4, 172]
abbrev dktX0_row_2 : List UInt8 := dkwX0_row_2 ++ []
def dkwX0_row_1 : List UInt8 := [16, 254, 182, 0, 105, 172, 42, 180, 0, 69, 27, 50, 28, 29, 184, 0, 109, 181, 0, 113, 167, 0, 12]
abbrev dktX0_row_1 : List UInt8 := dkwX0_row_1 ++ dktX0_row_2
def dkwX0_row_0 : List UInt8 := [27, 184, 0, 101, 153, 0, 18, 28, 155, 0, 14, 28, 7, 163, 0, 9, 29, 16, 40, 164, 0, 10, 42]
abbrev dktX0_row_0 : List UInt8 := dkwX0_row_0 ++ dktX0_row_1
theorem dksX0_row_0 : cX0_row.data.toList.drop 0 = dktX0_row_0 := by decide +kernel
theorem dksX0_row_1 : cX0_row.data.toList.drop 23 = dktX0_row_1 := dk_seg dksX0_row_0 23 rfl rfl
theorem dksX0_row_2 : cX0_row.data.toList.drop 46 = dktX0_row_2 := dk_seg dksX0_row_1 23 rfl rfl
theorem dX0_row_0 : decode cX0_row 0 = .ok (.iload_n 1, 1) := dk_27 (dk_at dksX0_row_0 0 rfl rfl)
theorem dX0_row_1 : decode cX0_row 1 = .ok (.invokestatic 101, 3) := dk_184 0 101 (dk_at dksX0_row_0 1 rfl rfl)
theorem dX0_row_4 : decode cX0_row 4 = .ok (.ifCond .eq 18, 3) := dk_153 0 18 (dk_at dksX0_row_0 4 rfl rfl)
theorem dX0_row_7 : decode cX0_row 7 = .ok (.iload_n 2, 1) := dk_28 (dk_at dksX0_row_0 7 rfl rfl)
theorem dX0_row_8 : decode cX0_row 8 = .ok (.ifCond .lt 14, 3) := dk_155 0 14 (dk_at dksX0_row_0 8 rfl rfl)
theorem dX0_row_11 : decode cX0_row 11 = .ok (.iload_n 2, 1) := dk_28 (dk_at dksX0_row_0 11 rfl rfl)
theorem dX0_row_12 : decode cX0_row 12 = .ok (.iconst 4, 1) := dk_7 (dk_at dksX0_row_0 12 rfl rfl)
theorem dX0_row_13 : decode cX0_row 13 = .ok (.if_icmp .gt 9, 3) := dk_163 0 9 (dk_at dksX0_row_0 13 rfl rfl)
theorem dX0_row_16 : decode cX0_row 16 = .ok (.iload_n 3, 1) := dk_29 (dk_at dksX0_row_0 16 rfl rfl)
theorem dX0_row_17 : decode cX0_row 17 = .ok (.bipush 40, 2) := dk_16 40 (dk_at dksX0_row_0 17 rfl rfl)
theorem dX0_row_19 : decode cX0_row 19 = .ok (.if_icmp .le 10, 3) := dk_164 0 10 (dk_at dksX0_row_0 19 rfl rfl)
theorem dX0_row_22 : decode cX0_row 22 = .ok (.aload_n 0, 1) := dk_42 (dk_at dksX0_row_0 22 rfl rfl)
theorem dX0_row_23 : decode cX0_row 23 = .ok (.bipush (-2), 2) := dk_16 254 (dk_at dksX0_row_1 0 rfl rfl)
theorem dX0_row_25 : decode cX0_row 25 = .ok (.invokevirtual 105, 3) := dk_182 0 105 (dk_at dksX0_row_1 2 rfl rfl)
theorem dX0_row_28 : decode cX0_row 28 = .ok (.ireturn, 1) := dk_172 (dk_at dksX0_row_1 5 rfl rfl)
theorem dX0_row_29 : decode cX0_row 29 = .ok (.aload_n 0, 1) := dk_42 (dk_at dksX0_row_1 6 rfl rfl)
theorem dX0_row_30 : decode cX0_row 30 = .ok (.getfield 69, 3) := dk_180 0 69 (dk_at dksX0_row_1 7 rfl rfl)
theorem dX0_row_33 : decode cX0_row 33 = .ok (.iload_n 1, 1) := dk_27 (dk_at dksX0_row_1 10 rfl rfl)
theorem dX0_row_34 : decode cX0_row 34 = .ok (.aaload, 1) := dk_50 (dk_at dksX0_row_1 11 rfl rfl)
theorem dX0_row_35 : decode cX0_row 35 = .ok (.iload_n 2, 1) := dk_28 (dk_at dksX0_row_1 12 rfl rfl)
theorem dX0_row_36 : decode cX0_row 36 = .ok (.iload_n 3, 1) := dk_29 (dk_at dksX0_row_1 13 rfl rfl)
theorem dX0_row_37 : decode cX0_row 37 = .ok (.invokestatic 109, 3) := dk_184 0 109 (dk_at dksX0_row_1 14 rfl rfl)
theorem dX0_row_40 : decode cX0_row 40 = .ok (.putfield 113, 3) := dk_181 0 113 (dk_at dksX0_row_1 17 rfl rfl)
theorem dX0_row_43 : decode cX0_row 43 = .ok (.goto 12, 3) := dk_167 0 12 (dk_at dksX0_row_1 20 rfl rfl)
theorem dX0_row_46 : decode cX0_row 46 = .ok (.astore 4, 2) := dk_58 4 (dk_at dksX0_row_2 0 rfl rfl)
theorem dX0_row_48 : decode cX0_row 48 = .ok (.aload_n 0, 1) := dk_42 (dk_at dksX0_row_2 2 rfl rfl)
theorem dX0_row_49 : decode cX0_row 49 = .ok (.bipush (-2), 2) := dk_16 254 (dk_at dksX0_row_2 3 rfl rfl)
theorem dX0_row_51 : decode cX0_row 51 = .ok (.invokevirtual 105, 3) := dk_182 0 105 (dk_at dksX0_row_2 5 rfl rfl)
theorem dX0_row_54 : decode cX0_row 54 = .ok (.ireturn, 1) := dk_172 (dk_at dksX0_row_2 8 rfl rfl)
theorem dX0_row_55 : decode cX0_row 55 = .ok (.iconst 1, 1) := dk_4 (dk_at dksX0_row_2 9 rfl rfl)
theorem dX0_row_56 : decode cX0_row 56 = .ok (.ireturn, 1) := dk_172 (dk_at dksX0_row_2 10 rfl rfl)
abbrev cX0_isShelf : ByteArray := prog_1_method_8_code
def yX0_isShelf : MethodName := ⟨RX0, "isShelf", "(I)Z"⟩
def dkwX0_isShelf_0 : List UInt8 := [26, 3, 16, 7, 184, 0, 3, 172]
abbrev dktX0_isShelf_0 : List UInt8 := dkwX0_isShelf_0 ++ []
theorem dksX0_isShelf_0 : cX0_isShelf.data.toList.drop 0 = dktX0_isShelf_0 := by decide +kernel
theorem dX0_isShelf_0 : decode cX0_isShelf 0 = .ok (.iload_n 0, 1) := dk_26 (dk_at dksX0_isShelf_0 0 rfl rfl)
theorem dX0_isShelf_1 : decode cX0_isShelf 1 = .ok (.iconst 0, 1) := dk_3 (dk_at dksX0_isShelf_0 1 rfl rfl)
theorem dX0_isShelf_2 : decode cX0_isShelf 2 = .ok (.bipush 7, 2) := dk_16 7 (dk_at dksX0_isShelf_0 2 rfl rfl)
theorem dX0_isShelf_4 : decode cX0_isShelf 4 = .ok (.invokestatic 3, 3) := dk_184 0 3 (dk_at dksX0_isShelf_0 4 rfl rfl)
theorem dX0_isShelf_7 : decode cX0_isShelf 7 = .ok (.ireturn, 1) := dk_172 (dk_at dksX0_isShelf_0 7 rfl rfl)
abbrev cX0_isIn : ByteArray := prog_1_method_1_code
def yX0_isIn : MethodName := ⟨RX0, "isIn", "(III)Z"⟩
def dkwX0_isIn_0 : List UInt8 := [26, 27, 161, 0, 12, 26, 28, 163, 0, 7, 4, 167, 0, 4, 3, 172]
abbrev dktX0_isIn_0 : List UInt8 := dkwX0_isIn_0 ++ []
theorem dksX0_isIn_0 : cX0_isIn.data.toList.drop 0 = dktX0_isIn_0 := by decide +kernel
theorem dX0_isIn_0 : decode cX0_isIn 0 = .ok (.iload_n 0, 1) := dk_26 (dk_at dksX0_isIn_0 0 rfl rfl)
theorem dX0_isIn_1 : decode cX0_isIn 1 = .ok (.iload_n 1, 1) := dk_27 (dk_at dksX0_isIn_0 1 rfl rfl)
theorem dX0_isIn_2 : decode cX0_isIn 2 = .ok (.if_icmp .lt 12, 3) := dk_161 0 12 (dk_at dksX0_isIn_0 2 rfl rfl)
theorem dX0_isIn_5 : decode cX0_isIn 5 = .ok (.iload_n 0, 1) := dk_26 (dk_at dksX0_isIn_0 5 rfl rfl)
theorem dX0_isIn_6 : decode cX0_isIn 6 = .ok (.iload_n 2, 1) := dk_28 (dk_at dksX0_isIn_0 6 rfl rfl)
theorem dX0_isIn_7 : decode cX0_isIn 7 = .ok (.if_icmp .gt 7, 3) := dk_163 0 7 (dk_at dksX0_isIn_0 7 rfl rfl)
theorem dX0_isIn_10 : decode cX0_isIn 10 = .ok (.iconst 1, 1) := dk_4 (dk_at dksX0_isIn_0 10 rfl rfl)
theorem dX0_isIn_11 : decode cX0_isIn 11 = .ok (.goto 4, 3) := dk_167 0 4 (dk_at dksX0_isIn_0 11 rfl rfl)
theorem dX0_isIn_14 : decode cX0_isIn 14 = .ok (.iconst 0, 1) := dk_3 (dk_at dksX0_isIn_0 14 rfl rfl)
theorem dX0_isIn_15 : decode cX0_isIn 15 = .ok (.ireturn, 1) := dk_172 (dk_at dksX0_isIn_0 15 rfl rfl)
abbrev cX0_no : ByteArray := prog_1_method_7_code
def yX0_no : MethodName := ⟨RX0, "no", "(I)I"⟩
def dkwX0_no_0 : List UInt8 := [42, 180, 0, 76, 27, 116, 92, 46, 4, 96, 79, 27, 172]
abbrev dktX0_no_0 : List UInt8 := dkwX0_no_0 ++ []
theorem dksX0_no_0 : cX0_no.data.toList.drop 0 = dktX0_no_0 := by decide +kernel
theorem dX0_no_0 : decode cX0_no 0 = .ok (.aload_n 0, 1) := dk_42 (dk_at dksX0_no_0 0 rfl rfl)
theorem dX0_no_1 : decode cX0_no 1 = .ok (.getfield 76, 3) := dk_180 0 76 (dk_at dksX0_no_0 1 rfl rfl)
theorem dX0_no_4 : decode cX0_no 4 = .ok (.iload_n 1, 1) := dk_27 (dk_at dksX0_no_0 4 rfl rfl)
theorem dX0_no_5 : decode cX0_no 5 = .ok (.ineg, 1) := dk_116 (dk_at dksX0_no_0 5 rfl rfl)
theorem dX0_no_6 : decode cX0_no 6 = .ok (.dup2, 1) := dk_92 (dk_at dksX0_no_0 6 rfl rfl)
theorem dX0_no_7 : decode cX0_no 7 = .ok (.iaload, 1) := dk_46 (dk_at dksX0_no_0 7 rfl rfl)
theorem dX0_no_8 : decode cX0_no 8 = .ok (.iconst 1, 1) := dk_4 (dk_at dksX0_no_0 8 rfl rfl)
theorem dX0_no_9 : decode cX0_no 9 = .ok (.iadd, 1) := dk_96 (dk_at dksX0_no_0 9 rfl rfl)
theorem dX0_no_10 : decode cX0_no 10 = .ok (.iastore, 1) := dk_79 (dk_at dksX0_no_0 10 rfl rfl)
theorem dX0_no_11 : decode cX0_no 11 = .ok (.iload_n 1, 1) := dk_27 (dk_at dksX0_no_0 11 rfl rfl)
theorem dX0_no_12 : decode cX0_no 12 = .ok (.ireturn, 1) := dk_172 (dk_at dksX0_no_0 12 rfl rfl)
abbrev cX0_rowOf : ByteArray := prog_1_method_11_code
def yX0_rowOf : MethodName := ⟨RX0, "rowOf", "(II)Ljava/lang/Object;"⟩
def dkwX0_rowOf_2 : List UInt8 := [27, 188, 8, 176, 27, 188, 9, 176, 27, 188, 10, 176, 27, 188, 11, 176, 27, 188, 4, 176]
abbrev dktX0_rowOf_2 : List UInt8 := dkwX0_rowOf_2 ++ []
def dkwX0_rowOf_1 : List UInt8 := [170, 0, 0, 0, 0, 0, 47, 0, 0, 0, 0, 0, 0, 0, 3, 0, 0, 0, 31, 0, 0, 0, 35, 0, 0, 0, 39, 0, 0, 0, 43]
abbrev dktX0_rowOf_1 : List UInt8 := dkwX0_rowOf_1 ++ dktX0_rowOf_2
def dkwX0_rowOf_0 : List UInt8 := [26]
abbrev dktX0_rowOf_0 : List UInt8 := dkwX0_rowOf_0 ++ dktX0_rowOf_1
theorem dksX0_rowOf_0 : cX0_rowOf.data.toList.drop 0 = dktX0_rowOf_0 := by decide +kernel
theorem dksX0_rowOf_1 : cX0_rowOf.data.toList.drop 1 = dktX0_rowOf_1 := dk_seg dksX0_rowOf_0 1 rfl rfl
theorem dksX0_rowOf_2 : cX0_rowOf.data.toList.drop 32 = dktX0_rowOf_2 := dk_seg dksX0_rowOf_1 31 rfl rfl
theorem dX0_rowOf_0 : decode cX0_rowOf 0 = .ok (.iload_n 0, 1) := dk_26 (dk_at dksX0_rowOf_0 0 rfl rfl)
theorem dX0_rowOf_1 : decode cX0_rowOf 1 = .ok (.tableswitch 47 0 3 #[31, 35, 39, 43], 31) := by decide +kernel
theorem dX0_rowOf_32 : decode cX0_rowOf 32 = .ok (.iload_n 1, 1) := dk_27 (dk_at dksX0_rowOf_2 0 rfl rfl)
theorem dX0_rowOf_33 : decode cX0_rowOf 33 = .ok (.newarray .byte, 2) := dk_188_8 (dk_at dksX0_rowOf_2 1 rfl rfl)
theorem dX0_rowOf_35 : decode cX0_rowOf 35 = .ok (.areturn, 1) := dk_176 (dk_at dksX0_rowOf_2 3 rfl rfl)
theorem dX0_rowOf_36 : decode cX0_rowOf 36 = .ok (.iload_n 1, 1) := dk_27 (dk_at dksX0_rowOf_2 4 rfl rfl)
theorem dX0_rowOf_37 : decode cX0_rowOf 37 = .ok (.newarray .short, 2) := dk_188_9 (dk_at dksX0_rowOf_2 5 rfl rfl)
theorem dX0_rowOf_39 : decode cX0_rowOf 39 = .ok (.areturn, 1) := dk_176 (dk_at dksX0_rowOf_2 7 rfl rfl)
theorem dX0_rowOf_40 : decode cX0_rowOf 40 = .ok (.iload_n 1, 1) := dk_27 (dk_at dksX0_rowOf_2 8 rfl rfl)
theorem dX0_rowOf_41 : decode cX0_rowOf 41 = .ok (.newarray .int, 2) := dk_188_10 (dk_at dksX0_rowOf_2 9 rfl rfl)
theorem dX0_rowOf_43 : decode cX0_rowOf 43 = .ok (.areturn, 1) := dk_176 (dk_at dksX0_rowOf_2 11 rfl rfl)
theorem dX0_rowOf_44 : decode cX0_rowOf 44 = .ok (.iload_n 1, 1) := dk_27 (dk_at dksX0_rowOf_2 12 rfl rfl)
theorem dX0_rowOf_45 : decode cX0_rowOf 45 = .ok (.newarray .long, 2) := dk_188_11 (dk_at dksX0_rowOf_2 13 rfl rfl)
theorem dX0_rowOf_47 : decode cX0_rowOf 47 = .ok (.areturn, 1) := dk_176 (dk_at dksX0_rowOf_2 15 rfl rfl)
theorem dX0_rowOf_48 : decode cX0_rowOf 48 = .ok (.iload_n 1, 1) := dk_27 (dk_at dksX0_rowOf_2 16 rfl rfl)
theorem dX0_rowOf_49 : decode cX0_rowOf 49 = .ok (.newarray .boolean, 2) := dk_188_4 (dk_at dksX0_rowOf_2 17 rfl rfl)
theorem dX0_rowOf_51 : decode cX0_rowOf 51 = .ok (.areturn, 1) := dk_176 (dk_at dksX0_rowOf_2 19 rfl rfl)
abbrev cX0_set : ByteArray := prog_1_method_17_code
def yX0_set : MethodName := ⟨RX0, "set", "(IIJ)I"⟩
def dkwX0_set_1 : List UInt8 := [4, 172, 58, 5, 42, 25, 5, 180, 0, 132, 182, 0, 105, 172, 58, 5, 42, 16, 254, 182, 0, 105, 172]
abbrev dktX0_set_1 : List UInt8 := dkwX0_set_1 ++ []
def dkwX0_set_0 : List UInt8 := [27, 184, 0, 101, 154, 0, 10, 42, 16, 254, 182, 0, 105, 172, 42, 27, 182, 0, 124, 28, 33, 184, 0, 128]
abbrev dktX0_set_0 : List UInt8 := dkwX0_set_0 ++ dktX0_set_1
theorem dksX0_set_0 : cX0_set.data.toList.drop 0 = dktX0_set_0 := by decide +kernel
theorem dksX0_set_1 : cX0_set.data.toList.drop 24 = dktX0_set_1 := dk_seg dksX0_set_0 24 rfl rfl
theorem dX0_set_0 : decode cX0_set 0 = .ok (.iload_n 1, 1) := dk_27 (dk_at dksX0_set_0 0 rfl rfl)
theorem dX0_set_1 : decode cX0_set 1 = .ok (.invokestatic 101, 3) := dk_184 0 101 (dk_at dksX0_set_0 1 rfl rfl)
theorem dX0_set_4 : decode cX0_set 4 = .ok (.ifCond .ne 10, 3) := dk_154 0 10 (dk_at dksX0_set_0 4 rfl rfl)
theorem dX0_set_7 : decode cX0_set 7 = .ok (.aload_n 0, 1) := dk_42 (dk_at dksX0_set_0 7 rfl rfl)
theorem dX0_set_8 : decode cX0_set 8 = .ok (.bipush (-2), 2) := dk_16 254 (dk_at dksX0_set_0 8 rfl rfl)
theorem dX0_set_10 : decode cX0_set 10 = .ok (.invokevirtual 105, 3) := dk_182 0 105 (dk_at dksX0_set_0 10 rfl rfl)
theorem dX0_set_13 : decode cX0_set 13 = .ok (.ireturn, 1) := dk_172 (dk_at dksX0_set_0 13 rfl rfl)
theorem dX0_set_14 : decode cX0_set 14 = .ok (.aload_n 0, 1) := dk_42 (dk_at dksX0_set_0 14 rfl rfl)
theorem dX0_set_15 : decode cX0_set 15 = .ok (.iload_n 1, 1) := dk_27 (dk_at dksX0_set_0 15 rfl rfl)
theorem dX0_set_16 : decode cX0_set 16 = .ok (.invokevirtual 124, 3) := dk_182 0 124 (dk_at dksX0_set_0 16 rfl rfl)
theorem dX0_set_19 : decode cX0_set 19 = .ok (.iload_n 2, 1) := dk_28 (dk_at dksX0_set_0 19 rfl rfl)
theorem dX0_set_20 : decode cX0_set 20 = .ok (.lload_n 3, 1) := dk_33 (dk_at dksX0_set_0 20 rfl rfl)
theorem dX0_set_21 : decode cX0_set 21 = .ok (.invokestatic 128, 3) := dk_184 0 128 (dk_at dksX0_set_0 21 rfl rfl)
theorem dX0_set_24 : decode cX0_set 24 = .ok (.iconst 1, 1) := dk_4 (dk_at dksX0_set_1 0 rfl rfl)
theorem dX0_set_25 : decode cX0_set 25 = .ok (.ireturn, 1) := dk_172 (dk_at dksX0_set_1 1 rfl rfl)
theorem dX0_set_26 : decode cX0_set 26 = .ok (.astore 5, 2) := dk_58 5 (dk_at dksX0_set_1 2 rfl rfl)
theorem dX0_set_28 : decode cX0_set 28 = .ok (.aload_n 0, 1) := dk_42 (dk_at dksX0_set_1 4 rfl rfl)
theorem dX0_set_29 : decode cX0_set 29 = .ok (.aload 5, 2) := dk_25 5 (dk_at dksX0_set_1 5 rfl rfl)
theorem dX0_set_31 : decode cX0_set 31 = .ok (.getfield 132, 3) := dk_180 0 132 (dk_at dksX0_set_1 7 rfl rfl)
theorem dX0_set_34 : decode cX0_set 34 = .ok (.invokevirtual 105, 3) := dk_182 0 105 (dk_at dksX0_set_1 10 rfl rfl)
theorem dX0_set_37 : decode cX0_set 37 = .ok (.ireturn, 1) := dk_172 (dk_at dksX0_set_1 13 rfl rfl)
theorem dX0_set_38 : decode cX0_set 38 = .ok (.astore 5, 2) := dk_58 5 (dk_at dksX0_set_1 14 rfl rfl)
theorem dX0_set_40 : decode cX0_set 40 = .ok (.aload_n 0, 1) := dk_42 (dk_at dksX0_set_1 16 rfl rfl)
theorem dX0_set_41 : decode cX0_set 41 = .ok (.bipush (-2), 2) := dk_16 254 (dk_at dksX0_set_1 17 rfl rfl)
theorem dX0_set_43 : decode cX0_set 43 = .ok (.invokevirtual 105, 3) := dk_182 0 105 (dk_at dksX0_set_1 19 rfl rfl)
theorem dX0_set_46 : decode cX0_set 46 = .ok (.ireturn, 1) := dk_172 (dk_at dksX0_set_1 22 rfl rfl)
abbrev cX0_rowIn : ByteArray := prog_1_method_16_code
def yX0_rowIn : MethodName := ⟨RX0, "rowIn", "(I)Ljava/lang/Object;"⟩
def dkwX0_rowIn_1 : List UInt8 := [183, 0, 121, 191, 44, 199, 0, 13, 187, 0, 119, 89, 16, 252, 183, 0, 121, 191, 44, 176]
abbrev dktX0_rowIn_1 : List UInt8 := dkwX0_rowIn_1 ++ []
def dkwX0_rowIn_0 : List UInt8 := [42, 180, 0, 69, 27, 50, 180, 0, 113, 77, 44, 193, 0, 7, 153, 0, 13, 187, 0, 119, 89, 16, 253]
abbrev dktX0_rowIn_0 : List UInt8 := dkwX0_rowIn_0 ++ dktX0_rowIn_1
theorem dksX0_rowIn_0 : cX0_rowIn.data.toList.drop 0 = dktX0_rowIn_0 := by decide +kernel
theorem dksX0_rowIn_1 : cX0_rowIn.data.toList.drop 23 = dktX0_rowIn_1 := dk_seg dksX0_rowIn_0 23 rfl rfl
theorem dX0_rowIn_0 : decode cX0_rowIn 0 = .ok (.aload_n 0, 1) := dk_42 (dk_at dksX0_rowIn_0 0 rfl rfl)
theorem dX0_rowIn_1 : decode cX0_rowIn 1 = .ok (.getfield 69, 3) := dk_180 0 69 (dk_at dksX0_rowIn_0 1 rfl rfl)
theorem dX0_rowIn_4 : decode cX0_rowIn 4 = .ok (.iload_n 1, 1) := dk_27 (dk_at dksX0_rowIn_0 4 rfl rfl)
theorem dX0_rowIn_5 : decode cX0_rowIn 5 = .ok (.aaload, 1) := dk_50 (dk_at dksX0_rowIn_0 5 rfl rfl)
theorem dX0_rowIn_6 : decode cX0_rowIn 6 = .ok (.getfield 113, 3) := dk_180 0 113 (dk_at dksX0_rowIn_0 6 rfl rfl)
theorem dX0_rowIn_9 : decode cX0_rowIn 9 = .ok (.astore_n 2, 1) := dk_77 (dk_at dksX0_rowIn_0 9 rfl rfl)
theorem dX0_rowIn_10 : decode cX0_rowIn 10 = .ok (.aload_n 2, 1) := dk_44 (dk_at dksX0_rowIn_0 10 rfl rfl)
theorem dX0_rowIn_11 : decode cX0_rowIn 11 = .ok (.instanceof 7, 3) := dk_193 0 7 (dk_at dksX0_rowIn_0 11 rfl rfl)
theorem dX0_rowIn_14 : decode cX0_rowIn 14 = .ok (.ifCond .eq 13, 3) := dk_153 0 13 (dk_at dksX0_rowIn_0 14 rfl rfl)
theorem dX0_rowIn_17 : decode cX0_rowIn 17 = .ok (.new 119, 3) := dk_187 0 119 (dk_at dksX0_rowIn_0 17 rfl rfl)
theorem dX0_rowIn_20 : decode cX0_rowIn 20 = .ok (.dup, 1) := dk_89 (dk_at dksX0_rowIn_0 20 rfl rfl)
theorem dX0_rowIn_21 : decode cX0_rowIn 21 = .ok (.bipush (-3), 2) := dk_16 253 (dk_at dksX0_rowIn_0 21 rfl rfl)
theorem dX0_rowIn_23 : decode cX0_rowIn 23 = .ok (.invokespecial 121, 3) := dk_183 0 121 (dk_at dksX0_rowIn_1 0 rfl rfl)
theorem dX0_rowIn_26 : decode cX0_rowIn 26 = .ok (.athrow, 1) := dk_191 (dk_at dksX0_rowIn_1 3 rfl rfl)
theorem dX0_rowIn_27 : decode cX0_rowIn 27 = .ok (.aload_n 2, 1) := dk_44 (dk_at dksX0_rowIn_1 4 rfl rfl)
theorem dX0_rowIn_28 : decode cX0_rowIn 28 = .ok (.ifnonnull 13, 3) := dk_199 0 13 (dk_at dksX0_rowIn_1 5 rfl rfl)
theorem dX0_rowIn_31 : decode cX0_rowIn 31 = .ok (.new 119, 3) := dk_187 0 119 (dk_at dksX0_rowIn_1 8 rfl rfl)
theorem dX0_rowIn_34 : decode cX0_rowIn 34 = .ok (.dup, 1) := dk_89 (dk_at dksX0_rowIn_1 11 rfl rfl)
theorem dX0_rowIn_35 : decode cX0_rowIn 35 = .ok (.bipush (-4), 2) := dk_16 252 (dk_at dksX0_rowIn_1 12 rfl rfl)
theorem dX0_rowIn_37 : decode cX0_rowIn 37 = .ok (.invokespecial 121, 3) := dk_183 0 121 (dk_at dksX0_rowIn_1 14 rfl rfl)
theorem dX0_rowIn_40 : decode cX0_rowIn 40 = .ok (.athrow, 1) := dk_191 (dk_at dksX0_rowIn_1 17 rfl rfl)
theorem dX0_rowIn_41 : decode cX0_rowIn 41 = .ok (.aload_n 2, 1) := dk_44 (dk_at dksX0_rowIn_1 18 rfl rfl)
theorem dX0_rowIn_42 : decode cX0_rowIn 42 = .ok (.areturn, 1) := dk_176 (dk_at dksX0_rowIn_1 19 rfl rfl)
abbrev cX0_puts : ByteArray := prog_1_method_14_code
def yX0_puts : MethodName := ⟨RX0, "puts", "(Ljava/lang/Object;IJ)V"⟩
def dkwX0_puts_4 : List UInt8 := [192, 0, 99, 27, 32, 9, 148, 153, 0, 7, 4, 167, 0, 4, 3, 84, 177]
abbrev dktX0_puts_4 : List UInt8 := dkwX0_puts_4 ++ []
def dkwX0_puts_3 : List UInt8 := [42, 192, 0, 92, 27, 32, 136, 79, 167, 0, 30, 42, 192, 0, 93, 27, 32, 80, 167, 0, 20, 42]
abbrev dktX0_puts_3 : List UInt8 := dkwX0_puts_3 ++ dktX0_puts_4
def dkwX0_puts_2 : List UInt8 := [42, 192, 0, 88, 27, 32, 136, 145, 84, 167, 0, 53, 42, 192, 0, 90, 27, 32, 136, 147, 86, 167, 0, 41]
abbrev dktX0_puts_2 : List UInt8 := dkwX0_puts_2 ++ dktX0_puts_3
def dkwX0_puts_1 : List UInt8 := [170, 0, 0, 0, 0, 0, 0, 77, 0, 0, 0, 0, 0, 0, 0, 3, 0, 0, 0, 32, 0, 0, 0, 44, 0, 0, 0, 56, 0, 0, 0, 67]
abbrev dktX0_puts_1 : List UInt8 := dkwX0_puts_1 ++ dktX0_puts_2
def dkwX0_puts_0 : List UInt8 := [42, 184, 0, 95]
abbrev dktX0_puts_0 : List UInt8 := dkwX0_puts_0 ++ dktX0_puts_1
theorem dksX0_puts_0 : cX0_puts.data.toList.drop 0 = dktX0_puts_0 := by decide +kernel
theorem dksX0_puts_1 : cX0_puts.data.toList.drop 4 = dktX0_puts_1 := dk_seg dksX0_puts_0 4 rfl rfl
theorem dksX0_puts_2 : cX0_puts.data.toList.drop 36 = dktX0_puts_2 := dk_seg dksX0_puts_1 32 rfl rfl
theorem dksX0_puts_3 : cX0_puts.data.toList.drop 60 = dktX0_puts_3 := dk_seg dksX0_puts_2 24 rfl rfl
theorem dksX0_puts_4 : cX0_puts.data.toList.drop 82 = dktX0_puts_4 := dk_seg dksX0_puts_3 22 rfl rfl
theorem dX0_puts_0 : decode cX0_puts 0 = .ok (.aload_n 0, 1) := dk_42 (dk_at dksX0_puts_0 0 rfl rfl)
theorem dX0_puts_1 : decode cX0_puts 1 = .ok (.invokestatic 95, 3) := dk_184 0 95 (dk_at dksX0_puts_0 1 rfl rfl)
theorem dX0_puts_4 : decode cX0_puts 4 = .ok (.tableswitch 77 0 3 #[32, 44, 56, 67], 32) := by decide +kernel
theorem dX0_puts_36 : decode cX0_puts 36 = .ok (.aload_n 0, 1) := dk_42 (dk_at dksX0_puts_2 0 rfl rfl)
theorem dX0_puts_37 : decode cX0_puts 37 = .ok (.checkcast 88, 3) := dk_192 0 88 (dk_at dksX0_puts_2 1 rfl rfl)
theorem dX0_puts_40 : decode cX0_puts 40 = .ok (.iload_n 1, 1) := dk_27 (dk_at dksX0_puts_2 4 rfl rfl)
theorem dX0_puts_41 : decode cX0_puts 41 = .ok (.lload_n 2, 1) := dk_32 (dk_at dksX0_puts_2 5 rfl rfl)
theorem dX0_puts_42 : decode cX0_puts 42 = .ok (.l2i, 1) := dk_136 (dk_at dksX0_puts_2 6 rfl rfl)
theorem dX0_puts_43 : decode cX0_puts 43 = .ok (.i2b, 1) := dk_145 (dk_at dksX0_puts_2 7 rfl rfl)
theorem dX0_puts_44 : decode cX0_puts 44 = .ok (.bastore, 1) := dk_84 (dk_at dksX0_puts_2 8 rfl rfl)
theorem dX0_puts_45 : decode cX0_puts 45 = .ok (.goto 53, 3) := dk_167 0 53 (dk_at dksX0_puts_2 9 rfl rfl)
theorem dX0_puts_48 : decode cX0_puts 48 = .ok (.aload_n 0, 1) := dk_42 (dk_at dksX0_puts_2 12 rfl rfl)
theorem dX0_puts_49 : decode cX0_puts 49 = .ok (.checkcast 90, 3) := dk_192 0 90 (dk_at dksX0_puts_2 13 rfl rfl)
theorem dX0_puts_52 : decode cX0_puts 52 = .ok (.iload_n 1, 1) := dk_27 (dk_at dksX0_puts_2 16 rfl rfl)
theorem dX0_puts_53 : decode cX0_puts 53 = .ok (.lload_n 2, 1) := dk_32 (dk_at dksX0_puts_2 17 rfl rfl)
theorem dX0_puts_54 : decode cX0_puts 54 = .ok (.l2i, 1) := dk_136 (dk_at dksX0_puts_2 18 rfl rfl)
theorem dX0_puts_55 : decode cX0_puts 55 = .ok (.i2s, 1) := dk_147 (dk_at dksX0_puts_2 19 rfl rfl)
theorem dX0_puts_56 : decode cX0_puts 56 = .ok (.sastore, 1) := dk_86 (dk_at dksX0_puts_2 20 rfl rfl)
theorem dX0_puts_57 : decode cX0_puts 57 = .ok (.goto 41, 3) := dk_167 0 41 (dk_at dksX0_puts_2 21 rfl rfl)
theorem dX0_puts_60 : decode cX0_puts 60 = .ok (.aload_n 0, 1) := dk_42 (dk_at dksX0_puts_3 0 rfl rfl)
theorem dX0_puts_61 : decode cX0_puts 61 = .ok (.checkcast 92, 3) := dk_192 0 92 (dk_at dksX0_puts_3 1 rfl rfl)
theorem dX0_puts_64 : decode cX0_puts 64 = .ok (.iload_n 1, 1) := dk_27 (dk_at dksX0_puts_3 4 rfl rfl)
theorem dX0_puts_65 : decode cX0_puts 65 = .ok (.lload_n 2, 1) := dk_32 (dk_at dksX0_puts_3 5 rfl rfl)
theorem dX0_puts_66 : decode cX0_puts 66 = .ok (.l2i, 1) := dk_136 (dk_at dksX0_puts_3 6 rfl rfl)
theorem dX0_puts_67 : decode cX0_puts 67 = .ok (.iastore, 1) := dk_79 (dk_at dksX0_puts_3 7 rfl rfl)
theorem dX0_puts_68 : decode cX0_puts 68 = .ok (.goto 30, 3) := dk_167 0 30 (dk_at dksX0_puts_3 8 rfl rfl)
theorem dX0_puts_71 : decode cX0_puts 71 = .ok (.aload_n 0, 1) := dk_42 (dk_at dksX0_puts_3 11 rfl rfl)
theorem dX0_puts_72 : decode cX0_puts 72 = .ok (.checkcast 93, 3) := dk_192 0 93 (dk_at dksX0_puts_3 12 rfl rfl)
theorem dX0_puts_75 : decode cX0_puts 75 = .ok (.iload_n 1, 1) := dk_27 (dk_at dksX0_puts_3 15 rfl rfl)
theorem dX0_puts_76 : decode cX0_puts 76 = .ok (.lload_n 2, 1) := dk_32 (dk_at dksX0_puts_3 16 rfl rfl)
theorem dX0_puts_77 : decode cX0_puts 77 = .ok (.lastore, 1) := dk_80 (dk_at dksX0_puts_3 17 rfl rfl)
theorem dX0_puts_78 : decode cX0_puts 78 = .ok (.goto 20, 3) := dk_167 0 20 (dk_at dksX0_puts_3 18 rfl rfl)
theorem dX0_puts_81 : decode cX0_puts 81 = .ok (.aload_n 0, 1) := dk_42 (dk_at dksX0_puts_3 21 rfl rfl)
theorem dX0_puts_82 : decode cX0_puts 82 = .ok (.checkcast 99, 3) := dk_192 0 99 (dk_at dksX0_puts_4 0 rfl rfl)
theorem dX0_puts_85 : decode cX0_puts 85 = .ok (.iload_n 1, 1) := dk_27 (dk_at dksX0_puts_4 3 rfl rfl)
theorem dX0_puts_86 : decode cX0_puts 86 = .ok (.lload_n 2, 1) := dk_32 (dk_at dksX0_puts_4 4 rfl rfl)
theorem dX0_puts_87 : decode cX0_puts 87 = .ok (.lconst 0, 1) := dk_9 (dk_at dksX0_puts_4 5 rfl rfl)
theorem dX0_puts_88 : decode cX0_puts 88 = .ok (.lcmp, 1) := dk_148 (dk_at dksX0_puts_4 6 rfl rfl)
theorem dX0_puts_89 : decode cX0_puts 89 = .ok (.ifCond .eq 7, 3) := dk_153 0 7 (dk_at dksX0_puts_4 7 rfl rfl)
theorem dX0_puts_92 : decode cX0_puts 92 = .ok (.iconst 1, 1) := dk_4 (dk_at dksX0_puts_4 10 rfl rfl)
theorem dX0_puts_93 : decode cX0_puts 93 = .ok (.goto 4, 3) := dk_167 0 4 (dk_at dksX0_puts_4 11 rfl rfl)
theorem dX0_puts_96 : decode cX0_puts 96 = .ok (.iconst 0, 1) := dk_3 (dk_at dksX0_puts_4 14 rfl rfl)
theorem dX0_puts_97 : decode cX0_puts 97 = .ok (.bastore, 1) := dk_84 (dk_at dksX0_puts_4 15 rfl rfl)
theorem dX0_puts_98 : decode cX0_puts 98 = .ok (.return_, 1) := dk_177 (dk_at dksX0_puts_4 16 rfl rfl)
abbrev cX0_sortOf : ByteArray := prog_1_method_12_code
def yX0_sortOf : MethodName := ⟨RX0, "sortOf", "(Ljava/lang/Object;)I"⟩
def dkwX0_sortOf_1 : List UInt8 := [153, 0, 5, 5, 172, 42, 193, 0, 93, 153, 0, 7, 6, 167, 0, 4, 7, 172]
abbrev dktX0_sortOf_1 : List UInt8 := dkwX0_sortOf_1 ++ []
def dkwX0_sortOf_0 : List UInt8 := [42, 193, 0, 88, 153, 0, 5, 3, 172, 42, 193, 0, 90, 153, 0, 5, 4, 172, 42, 193, 0, 92]
abbrev dktX0_sortOf_0 : List UInt8 := dkwX0_sortOf_0 ++ dktX0_sortOf_1
theorem dksX0_sortOf_0 : cX0_sortOf.data.toList.drop 0 = dktX0_sortOf_0 := by decide +kernel
theorem dksX0_sortOf_1 : cX0_sortOf.data.toList.drop 22 = dktX0_sortOf_1 := dk_seg dksX0_sortOf_0 22 rfl rfl
theorem dX0_sortOf_0 : decode cX0_sortOf 0 = .ok (.aload_n 0, 1) := dk_42 (dk_at dksX0_sortOf_0 0 rfl rfl)
theorem dX0_sortOf_1 : decode cX0_sortOf 1 = .ok (.instanceof 88, 3) := dk_193 0 88 (dk_at dksX0_sortOf_0 1 rfl rfl)
theorem dX0_sortOf_4 : decode cX0_sortOf 4 = .ok (.ifCond .eq 5, 3) := dk_153 0 5 (dk_at dksX0_sortOf_0 4 rfl rfl)
theorem dX0_sortOf_7 : decode cX0_sortOf 7 = .ok (.iconst 0, 1) := dk_3 (dk_at dksX0_sortOf_0 7 rfl rfl)
theorem dX0_sortOf_8 : decode cX0_sortOf 8 = .ok (.ireturn, 1) := dk_172 (dk_at dksX0_sortOf_0 8 rfl rfl)
theorem dX0_sortOf_9 : decode cX0_sortOf 9 = .ok (.aload_n 0, 1) := dk_42 (dk_at dksX0_sortOf_0 9 rfl rfl)
theorem dX0_sortOf_10 : decode cX0_sortOf 10 = .ok (.instanceof 90, 3) := dk_193 0 90 (dk_at dksX0_sortOf_0 10 rfl rfl)
theorem dX0_sortOf_13 : decode cX0_sortOf 13 = .ok (.ifCond .eq 5, 3) := dk_153 0 5 (dk_at dksX0_sortOf_0 13 rfl rfl)
theorem dX0_sortOf_16 : decode cX0_sortOf 16 = .ok (.iconst 1, 1) := dk_4 (dk_at dksX0_sortOf_0 16 rfl rfl)
theorem dX0_sortOf_17 : decode cX0_sortOf 17 = .ok (.ireturn, 1) := dk_172 (dk_at dksX0_sortOf_0 17 rfl rfl)
theorem dX0_sortOf_18 : decode cX0_sortOf 18 = .ok (.aload_n 0, 1) := dk_42 (dk_at dksX0_sortOf_0 18 rfl rfl)
theorem dX0_sortOf_19 : decode cX0_sortOf 19 = .ok (.instanceof 92, 3) := dk_193 0 92 (dk_at dksX0_sortOf_0 19 rfl rfl)
theorem dX0_sortOf_22 : decode cX0_sortOf 22 = .ok (.ifCond .eq 5, 3) := dk_153 0 5 (dk_at dksX0_sortOf_1 0 rfl rfl)
theorem dX0_sortOf_25 : decode cX0_sortOf 25 = .ok (.iconst 2, 1) := dk_5 (dk_at dksX0_sortOf_1 3 rfl rfl)
theorem dX0_sortOf_26 : decode cX0_sortOf 26 = .ok (.ireturn, 1) := dk_172 (dk_at dksX0_sortOf_1 4 rfl rfl)
theorem dX0_sortOf_27 : decode cX0_sortOf 27 = .ok (.aload_n 0, 1) := dk_42 (dk_at dksX0_sortOf_1 5 rfl rfl)
theorem dX0_sortOf_28 : decode cX0_sortOf 28 = .ok (.instanceof 93, 3) := dk_193 0 93 (dk_at dksX0_sortOf_1 6 rfl rfl)
theorem dX0_sortOf_31 : decode cX0_sortOf 31 = .ok (.ifCond .eq 7, 3) := dk_153 0 7 (dk_at dksX0_sortOf_1 9 rfl rfl)
theorem dX0_sortOf_34 : decode cX0_sortOf 34 = .ok (.iconst 3, 1) := dk_6 (dk_at dksX0_sortOf_1 12 rfl rfl)
theorem dX0_sortOf_35 : decode cX0_sortOf 35 = .ok (.goto 4, 3) := dk_167 0 4 (dk_at dksX0_sortOf_1 13 rfl rfl)
theorem dX0_sortOf_38 : decode cX0_sortOf 38 = .ok (.iconst 4, 1) := dk_7 (dk_at dksX0_sortOf_1 16 rfl rfl)
theorem dX0_sortOf_39 : decode cX0_sortOf 39 = .ok (.ireturn, 1) := dk_172 (dk_at dksX0_sortOf_1 17 rfl rfl)
abbrev cX0_copy : ByteArray := prog_1_method_18_code
def yX0_copy : MethodName := ⟨RX0, "copy", "(IIIII)I"⟩
def dkwX0_copy_4 : List UInt8 := [16, 253, 182, 0, 105, 172, 58, 8, 42, 16, 254, 182, 0, 105, 172]
abbrev dktX0_copy_4 : List UInt8 := dkwX0_copy_4 ++ []
def dkwX0_copy_3 : List UInt8 := [25, 7, 21, 4, 21, 5, 184, 0, 138, 21, 5, 172, 58, 8, 42, 16, 252, 182, 0, 105, 172, 58, 8, 42]
abbrev dktX0_copy_3 : List UInt8 := dkwX0_copy_3 ++ dktX0_copy_4
def dkwX0_copy_2 : List UInt8 := [193, 0, 7, 154, 0, 11, 25, 7, 193, 0, 7, 153, 0, 10, 42, 16, 253, 182, 0, 105, 172, 25, 6, 29]
abbrev dktX0_copy_2 : List UInt8 := dkwX0_copy_2 ++ dktX0_copy_3
def dkwX0_copy_1 : List UInt8 := [180, 0, 69, 27, 50, 180, 0, 113, 58, 6, 42, 180, 0, 69, 28, 50, 180, 0, 113, 58, 7, 25, 6]
abbrev dktX0_copy_1 : List UInt8 := dkwX0_copy_1 ++ dktX0_copy_2
def dkwX0_copy_0 : List UInt8 := [27, 184, 0, 101, 153, 0, 10, 28, 184, 0, 101, 154, 0, 10, 42, 16, 254, 182, 0, 105, 172, 42]
abbrev dktX0_copy_0 : List UInt8 := dkwX0_copy_0 ++ dktX0_copy_1
theorem dksX0_copy_0 : cX0_copy.data.toList.drop 0 = dktX0_copy_0 := by decide +kernel
theorem dksX0_copy_1 : cX0_copy.data.toList.drop 22 = dktX0_copy_1 := dk_seg dksX0_copy_0 22 rfl rfl
theorem dksX0_copy_2 : cX0_copy.data.toList.drop 45 = dktX0_copy_2 := dk_seg dksX0_copy_1 23 rfl rfl
theorem dksX0_copy_3 : cX0_copy.data.toList.drop 69 = dktX0_copy_3 := dk_seg dksX0_copy_2 24 rfl rfl
theorem dksX0_copy_4 : cX0_copy.data.toList.drop 93 = dktX0_copy_4 := dk_seg dksX0_copy_3 24 rfl rfl
theorem dX0_copy_0 : decode cX0_copy 0 = .ok (.iload_n 1, 1) := dk_27 (dk_at dksX0_copy_0 0 rfl rfl)
theorem dX0_copy_1 : decode cX0_copy 1 = .ok (.invokestatic 101, 3) := dk_184 0 101 (dk_at dksX0_copy_0 1 rfl rfl)
theorem dX0_copy_4 : decode cX0_copy 4 = .ok (.ifCond .eq 10, 3) := dk_153 0 10 (dk_at dksX0_copy_0 4 rfl rfl)
theorem dX0_copy_7 : decode cX0_copy 7 = .ok (.iload_n 2, 1) := dk_28 (dk_at dksX0_copy_0 7 rfl rfl)
theorem dX0_copy_8 : decode cX0_copy 8 = .ok (.invokestatic 101, 3) := dk_184 0 101 (dk_at dksX0_copy_0 8 rfl rfl)
theorem dX0_copy_11 : decode cX0_copy 11 = .ok (.ifCond .ne 10, 3) := dk_154 0 10 (dk_at dksX0_copy_0 11 rfl rfl)
theorem dX0_copy_14 : decode cX0_copy 14 = .ok (.aload_n 0, 1) := dk_42 (dk_at dksX0_copy_0 14 rfl rfl)
theorem dX0_copy_15 : decode cX0_copy 15 = .ok (.bipush (-2), 2) := dk_16 254 (dk_at dksX0_copy_0 15 rfl rfl)
theorem dX0_copy_17 : decode cX0_copy 17 = .ok (.invokevirtual 105, 3) := dk_182 0 105 (dk_at dksX0_copy_0 17 rfl rfl)
theorem dX0_copy_20 : decode cX0_copy 20 = .ok (.ireturn, 1) := dk_172 (dk_at dksX0_copy_0 20 rfl rfl)
theorem dX0_copy_21 : decode cX0_copy 21 = .ok (.aload_n 0, 1) := dk_42 (dk_at dksX0_copy_0 21 rfl rfl)
theorem dX0_copy_22 : decode cX0_copy 22 = .ok (.getfield 69, 3) := dk_180 0 69 (dk_at dksX0_copy_1 0 rfl rfl)
theorem dX0_copy_25 : decode cX0_copy 25 = .ok (.iload_n 1, 1) := dk_27 (dk_at dksX0_copy_1 3 rfl rfl)
theorem dX0_copy_26 : decode cX0_copy 26 = .ok (.aaload, 1) := dk_50 (dk_at dksX0_copy_1 4 rfl rfl)
theorem dX0_copy_27 : decode cX0_copy 27 = .ok (.getfield 113, 3) := dk_180 0 113 (dk_at dksX0_copy_1 5 rfl rfl)
theorem dX0_copy_30 : decode cX0_copy 30 = .ok (.astore 6, 2) := dk_58 6 (dk_at dksX0_copy_1 8 rfl rfl)
theorem dX0_copy_32 : decode cX0_copy 32 = .ok (.aload_n 0, 1) := dk_42 (dk_at dksX0_copy_1 10 rfl rfl)
theorem dX0_copy_33 : decode cX0_copy 33 = .ok (.getfield 69, 3) := dk_180 0 69 (dk_at dksX0_copy_1 11 rfl rfl)
theorem dX0_copy_36 : decode cX0_copy 36 = .ok (.iload_n 2, 1) := dk_28 (dk_at dksX0_copy_1 14 rfl rfl)
theorem dX0_copy_37 : decode cX0_copy 37 = .ok (.aaload, 1) := dk_50 (dk_at dksX0_copy_1 15 rfl rfl)
theorem dX0_copy_38 : decode cX0_copy 38 = .ok (.getfield 113, 3) := dk_180 0 113 (dk_at dksX0_copy_1 16 rfl rfl)
theorem dX0_copy_41 : decode cX0_copy 41 = .ok (.astore 7, 2) := dk_58 7 (dk_at dksX0_copy_1 19 rfl rfl)
theorem dX0_copy_43 : decode cX0_copy 43 = .ok (.aload 6, 2) := dk_25 6 (dk_at dksX0_copy_1 21 rfl rfl)
theorem dX0_copy_45 : decode cX0_copy 45 = .ok (.instanceof 7, 3) := dk_193 0 7 (dk_at dksX0_copy_2 0 rfl rfl)
theorem dX0_copy_48 : decode cX0_copy 48 = .ok (.ifCond .ne 11, 3) := dk_154 0 11 (dk_at dksX0_copy_2 3 rfl rfl)
theorem dX0_copy_51 : decode cX0_copy 51 = .ok (.aload 7, 2) := dk_25 7 (dk_at dksX0_copy_2 6 rfl rfl)
theorem dX0_copy_53 : decode cX0_copy 53 = .ok (.instanceof 7, 3) := dk_193 0 7 (dk_at dksX0_copy_2 8 rfl rfl)
theorem dX0_copy_56 : decode cX0_copy 56 = .ok (.ifCond .eq 10, 3) := dk_153 0 10 (dk_at dksX0_copy_2 11 rfl rfl)
theorem dX0_copy_59 : decode cX0_copy 59 = .ok (.aload_n 0, 1) := dk_42 (dk_at dksX0_copy_2 14 rfl rfl)
theorem dX0_copy_60 : decode cX0_copy 60 = .ok (.bipush (-3), 2) := dk_16 253 (dk_at dksX0_copy_2 15 rfl rfl)
theorem dX0_copy_62 : decode cX0_copy 62 = .ok (.invokevirtual 105, 3) := dk_182 0 105 (dk_at dksX0_copy_2 17 rfl rfl)
theorem dX0_copy_65 : decode cX0_copy 65 = .ok (.ireturn, 1) := dk_172 (dk_at dksX0_copy_2 20 rfl rfl)
theorem dX0_copy_66 : decode cX0_copy 66 = .ok (.aload 6, 2) := dk_25 6 (dk_at dksX0_copy_2 21 rfl rfl)
theorem dX0_copy_68 : decode cX0_copy 68 = .ok (.iload_n 3, 1) := dk_29 (dk_at dksX0_copy_2 23 rfl rfl)
theorem dX0_copy_69 : decode cX0_copy 69 = .ok (.aload 7, 2) := dk_25 7 (dk_at dksX0_copy_3 0 rfl rfl)
theorem dX0_copy_71 : decode cX0_copy 71 = .ok (.iload 4, 2) := dk_21 4 (dk_at dksX0_copy_3 2 rfl rfl)
theorem dX0_copy_73 : decode cX0_copy 73 = .ok (.iload 5, 2) := dk_21 5 (dk_at dksX0_copy_3 4 rfl rfl)
theorem dX0_copy_75 : decode cX0_copy 75 = .ok (.invokestatic 138, 3) := dk_184 0 138 (dk_at dksX0_copy_3 6 rfl rfl)
theorem dX0_copy_78 : decode cX0_copy 78 = .ok (.iload 5, 2) := dk_21 5 (dk_at dksX0_copy_3 9 rfl rfl)
theorem dX0_copy_80 : decode cX0_copy 80 = .ok (.ireturn, 1) := dk_172 (dk_at dksX0_copy_3 11 rfl rfl)
theorem dX0_copy_81 : decode cX0_copy 81 = .ok (.astore 8, 2) := dk_58 8 (dk_at dksX0_copy_3 12 rfl rfl)
theorem dX0_copy_83 : decode cX0_copy 83 = .ok (.aload_n 0, 1) := dk_42 (dk_at dksX0_copy_3 14 rfl rfl)
theorem dX0_copy_84 : decode cX0_copy 84 = .ok (.bipush (-4), 2) := dk_16 252 (dk_at dksX0_copy_3 15 rfl rfl)
theorem dX0_copy_86 : decode cX0_copy 86 = .ok (.invokevirtual 105, 3) := dk_182 0 105 (dk_at dksX0_copy_3 17 rfl rfl)
theorem dX0_copy_89 : decode cX0_copy 89 = .ok (.ireturn, 1) := dk_172 (dk_at dksX0_copy_3 20 rfl rfl)
theorem dX0_copy_90 : decode cX0_copy 90 = .ok (.astore 8, 2) := dk_58 8 (dk_at dksX0_copy_3 21 rfl rfl)
theorem dX0_copy_92 : decode cX0_copy 92 = .ok (.aload_n 0, 1) := dk_42 (dk_at dksX0_copy_3 23 rfl rfl)
theorem dX0_copy_93 : decode cX0_copy 93 = .ok (.bipush (-3), 2) := dk_16 253 (dk_at dksX0_copy_4 0 rfl rfl)
theorem dX0_copy_95 : decode cX0_copy 95 = .ok (.invokevirtual 105, 3) := dk_182 0 105 (dk_at dksX0_copy_4 2 rfl rfl)
theorem dX0_copy_98 : decode cX0_copy 98 = .ok (.ireturn, 1) := dk_172 (dk_at dksX0_copy_4 5 rfl rfl)
theorem dX0_copy_99 : decode cX0_copy 99 = .ok (.astore 8, 2) := dk_58 8 (dk_at dksX0_copy_4 6 rfl rfl)
theorem dX0_copy_101 : decode cX0_copy 101 = .ok (.aload_n 0, 1) := dk_42 (dk_at dksX0_copy_4 8 rfl rfl)
theorem dX0_copy_102 : decode cX0_copy 102 = .ok (.bipush (-2), 2) := dk_16 254 (dk_at dksX0_copy_4 9 rfl rfl)
theorem dX0_copy_104 : decode cX0_copy 104 = .ok (.invokevirtual 105, 3) := dk_182 0 105 (dk_at dksX0_copy_4 11 rfl rfl)
theorem dX0_copy_107 : decode cX0_copy 107 = .ok (.ireturn, 1) := dk_172 (dk_at dksX0_copy_4 14 rfl rfl)
abbrev cX0_element : ByteArray := prog_1_method_19_code
def yX0_element : MethodName := ⟨RX0, "element", "(II)J"⟩
def dkwX0_element_1 : List UInt8 := [173]
abbrev dktX0_element_1 : List UInt8 := dkwX0_element_1 ++ []
def dkwX0_element_0 : List UInt8 := [27, 184, 0, 101, 154, 0, 5, 9, 173, 42, 27, 182, 0, 124, 28, 184, 0, 150, 173, 78, 9, 173, 78, 9]
abbrev dktX0_element_0 : List UInt8 := dkwX0_element_0 ++ dktX0_element_1
theorem dksX0_element_0 : cX0_element.data.toList.drop 0 = dktX0_element_0 := by decide +kernel
theorem dksX0_element_1 : cX0_element.data.toList.drop 24 = dktX0_element_1 := dk_seg dksX0_element_0 24 rfl rfl
theorem dX0_element_0 : decode cX0_element 0 = .ok (.iload_n 1, 1) := dk_27 (dk_at dksX0_element_0 0 rfl rfl)
theorem dX0_element_1 : decode cX0_element 1 = .ok (.invokestatic 101, 3) := dk_184 0 101 (dk_at dksX0_element_0 1 rfl rfl)
theorem dX0_element_4 : decode cX0_element 4 = .ok (.ifCond .ne 5, 3) := dk_154 0 5 (dk_at dksX0_element_0 4 rfl rfl)
theorem dX0_element_7 : decode cX0_element 7 = .ok (.lconst 0, 1) := dk_9 (dk_at dksX0_element_0 7 rfl rfl)
theorem dX0_element_8 : decode cX0_element 8 = .ok (.lreturn, 1) := dk_173 (dk_at dksX0_element_0 8 rfl rfl)
theorem dX0_element_9 : decode cX0_element 9 = .ok (.aload_n 0, 1) := dk_42 (dk_at dksX0_element_0 9 rfl rfl)
theorem dX0_element_10 : decode cX0_element 10 = .ok (.iload_n 1, 1) := dk_27 (dk_at dksX0_element_0 10 rfl rfl)
theorem dX0_element_11 : decode cX0_element 11 = .ok (.invokevirtual 124, 3) := dk_182 0 124 (dk_at dksX0_element_0 11 rfl rfl)
theorem dX0_element_14 : decode cX0_element 14 = .ok (.iload_n 2, 1) := dk_28 (dk_at dksX0_element_0 14 rfl rfl)
theorem dX0_element_15 : decode cX0_element 15 = .ok (.invokestatic 150, 3) := dk_184 0 150 (dk_at dksX0_element_0 15 rfl rfl)
theorem dX0_element_18 : decode cX0_element 18 = .ok (.lreturn, 1) := dk_173 (dk_at dksX0_element_0 18 rfl rfl)
theorem dX0_element_19 : decode cX0_element 19 = .ok (.astore_n 3, 1) := dk_78 (dk_at dksX0_element_0 19 rfl rfl)
theorem dX0_element_20 : decode cX0_element 20 = .ok (.lconst 0, 1) := dk_9 (dk_at dksX0_element_0 20 rfl rfl)
theorem dX0_element_21 : decode cX0_element 21 = .ok (.lreturn, 1) := dk_173 (dk_at dksX0_element_0 21 rfl rfl)
theorem dX0_element_22 : decode cX0_element 22 = .ok (.astore_n 3, 1) := dk_78 (dk_at dksX0_element_0 22 rfl rfl)
theorem dX0_element_23 : decode cX0_element 23 = .ok (.lconst 0, 1) := dk_9 (dk_at dksX0_element_0 23 rfl rfl)
theorem dX0_element_24 : decode cX0_element 24 = .ok (.lreturn, 1) := dk_173 (dk_at dksX0_element_1 0 rfl rfl)
abbrev cX0_elementOf : ByteArray := prog_1_method_13_code
def yX0_elementOf : MethodName := ⟨RX0, "elementOf", "(Ljava/lang/Object;I)J"⟩
def dkwX0_elementOf_3 : List UInt8 := [42, 192, 0, 93, 27, 47, 173, 42, 192, 0, 99, 27, 51, 153, 0, 7, 10, 167, 0, 4, 9, 173]
abbrev dktX0_elementOf_3 : List UInt8 := dkwX0_elementOf_3 ++ []
def dkwX0_elementOf_2 : List UInt8 := [42, 192, 0, 88, 27, 51, 133, 173, 42, 192, 0, 90, 27, 53, 133, 173, 42, 192, 0, 92, 27, 46, 133, 173]
abbrev dktX0_elementOf_2 : List UInt8 := dkwX0_elementOf_2 ++ dktX0_elementOf_3
def dkwX0_elementOf_1 : List UInt8 := [170, 0, 0, 0, 0, 0, 0, 63, 0, 0, 0, 0, 0, 0, 0, 3, 0, 0, 0, 32, 0, 0, 0, 40, 0, 0, 0, 48, 0, 0, 0, 56]
abbrev dktX0_elementOf_1 : List UInt8 := dkwX0_elementOf_1 ++ dktX0_elementOf_2
def dkwX0_elementOf_0 : List UInt8 := [42, 184, 0, 95]
abbrev dktX0_elementOf_0 : List UInt8 := dkwX0_elementOf_0 ++ dktX0_elementOf_1
theorem dksX0_elementOf_0 : cX0_elementOf.data.toList.drop 0 = dktX0_elementOf_0 := by decide +kernel
theorem dksX0_elementOf_1 : cX0_elementOf.data.toList.drop 4 = dktX0_elementOf_1 := dk_seg dksX0_elementOf_0 4 rfl rfl
theorem dksX0_elementOf_2 : cX0_elementOf.data.toList.drop 36 = dktX0_elementOf_2 := dk_seg dksX0_elementOf_1 32 rfl rfl
theorem dksX0_elementOf_3 : cX0_elementOf.data.toList.drop 60 = dktX0_elementOf_3 := dk_seg dksX0_elementOf_2 24 rfl rfl
theorem dX0_elementOf_0 : decode cX0_elementOf 0 = .ok (.aload_n 0, 1) := dk_42 (dk_at dksX0_elementOf_0 0 rfl rfl)
theorem dX0_elementOf_1 : decode cX0_elementOf 1 = .ok (.invokestatic 95, 3) := dk_184 0 95 (dk_at dksX0_elementOf_0 1 rfl rfl)
theorem dX0_elementOf_4 : decode cX0_elementOf 4 = .ok (.tableswitch 63 0 3 #[32, 40, 48, 56], 32) := by decide +kernel
theorem dX0_elementOf_36 : decode cX0_elementOf 36 = .ok (.aload_n 0, 1) := dk_42 (dk_at dksX0_elementOf_2 0 rfl rfl)
theorem dX0_elementOf_37 : decode cX0_elementOf 37 = .ok (.checkcast 88, 3) := dk_192 0 88 (dk_at dksX0_elementOf_2 1 rfl rfl)
theorem dX0_elementOf_40 : decode cX0_elementOf 40 = .ok (.iload_n 1, 1) := dk_27 (dk_at dksX0_elementOf_2 4 rfl rfl)
theorem dX0_elementOf_41 : decode cX0_elementOf 41 = .ok (.baload, 1) := dk_51 (dk_at dksX0_elementOf_2 5 rfl rfl)
theorem dX0_elementOf_42 : decode cX0_elementOf 42 = .ok (.i2l, 1) := dk_133 (dk_at dksX0_elementOf_2 6 rfl rfl)
theorem dX0_elementOf_43 : decode cX0_elementOf 43 = .ok (.lreturn, 1) := dk_173 (dk_at dksX0_elementOf_2 7 rfl rfl)
theorem dX0_elementOf_44 : decode cX0_elementOf 44 = .ok (.aload_n 0, 1) := dk_42 (dk_at dksX0_elementOf_2 8 rfl rfl)
theorem dX0_elementOf_45 : decode cX0_elementOf 45 = .ok (.checkcast 90, 3) := dk_192 0 90 (dk_at dksX0_elementOf_2 9 rfl rfl)
theorem dX0_elementOf_48 : decode cX0_elementOf 48 = .ok (.iload_n 1, 1) := dk_27 (dk_at dksX0_elementOf_2 12 rfl rfl)
theorem dX0_elementOf_49 : decode cX0_elementOf 49 = .ok (.saload, 1) := dk_53 (dk_at dksX0_elementOf_2 13 rfl rfl)
theorem dX0_elementOf_50 : decode cX0_elementOf 50 = .ok (.i2l, 1) := dk_133 (dk_at dksX0_elementOf_2 14 rfl rfl)
theorem dX0_elementOf_51 : decode cX0_elementOf 51 = .ok (.lreturn, 1) := dk_173 (dk_at dksX0_elementOf_2 15 rfl rfl)
theorem dX0_elementOf_52 : decode cX0_elementOf 52 = .ok (.aload_n 0, 1) := dk_42 (dk_at dksX0_elementOf_2 16 rfl rfl)
theorem dX0_elementOf_53 : decode cX0_elementOf 53 = .ok (.checkcast 92, 3) := dk_192 0 92 (dk_at dksX0_elementOf_2 17 rfl rfl)
theorem dX0_elementOf_56 : decode cX0_elementOf 56 = .ok (.iload_n 1, 1) := dk_27 (dk_at dksX0_elementOf_2 20 rfl rfl)
theorem dX0_elementOf_57 : decode cX0_elementOf 57 = .ok (.iaload, 1) := dk_46 (dk_at dksX0_elementOf_2 21 rfl rfl)
theorem dX0_elementOf_58 : decode cX0_elementOf 58 = .ok (.i2l, 1) := dk_133 (dk_at dksX0_elementOf_2 22 rfl rfl)
theorem dX0_elementOf_59 : decode cX0_elementOf 59 = .ok (.lreturn, 1) := dk_173 (dk_at dksX0_elementOf_2 23 rfl rfl)
theorem dX0_elementOf_60 : decode cX0_elementOf 60 = .ok (.aload_n 0, 1) := dk_42 (dk_at dksX0_elementOf_3 0 rfl rfl)
theorem dX0_elementOf_61 : decode cX0_elementOf 61 = .ok (.checkcast 93, 3) := dk_192 0 93 (dk_at dksX0_elementOf_3 1 rfl rfl)
theorem dX0_elementOf_64 : decode cX0_elementOf 64 = .ok (.iload_n 1, 1) := dk_27 (dk_at dksX0_elementOf_3 4 rfl rfl)
theorem dX0_elementOf_65 : decode cX0_elementOf 65 = .ok (.laload, 1) := dk_47 (dk_at dksX0_elementOf_3 5 rfl rfl)
theorem dX0_elementOf_66 : decode cX0_elementOf 66 = .ok (.lreturn, 1) := dk_173 (dk_at dksX0_elementOf_3 6 rfl rfl)
theorem dX0_elementOf_67 : decode cX0_elementOf 67 = .ok (.aload_n 0, 1) := dk_42 (dk_at dksX0_elementOf_3 7 rfl rfl)
theorem dX0_elementOf_68 : decode cX0_elementOf 68 = .ok (.checkcast 99, 3) := dk_192 0 99 (dk_at dksX0_elementOf_3 8 rfl rfl)
theorem dX0_elementOf_71 : decode cX0_elementOf 71 = .ok (.iload_n 1, 1) := dk_27 (dk_at dksX0_elementOf_3 11 rfl rfl)
theorem dX0_elementOf_72 : decode cX0_elementOf 72 = .ok (.baload, 1) := dk_51 (dk_at dksX0_elementOf_3 12 rfl rfl)
theorem dX0_elementOf_73 : decode cX0_elementOf 73 = .ok (.ifCond .eq 7, 3) := dk_153 0 7 (dk_at dksX0_elementOf_3 13 rfl rfl)
theorem dX0_elementOf_76 : decode cX0_elementOf 76 = .ok (.lconst 1, 1) := dk_10 (dk_at dksX0_elementOf_3 16 rfl rfl)
theorem dX0_elementOf_77 : decode cX0_elementOf 77 = .ok (.goto 4, 3) := dk_167 0 4 (dk_at dksX0_elementOf_3 17 rfl rfl)
theorem dX0_elementOf_80 : decode cX0_elementOf 80 = .ok (.lconst 0, 1) := dk_9 (dk_at dksX0_elementOf_3 20 rfl rfl)
theorem dX0_elementOf_81 : decode cX0_elementOf 81 = .ok (.lreturn, 1) := dk_173 (dk_at dksX0_elementOf_3 21 rfl rfl)
abbrev cX0_holds : ByteArray := prog_1_method_20_code
def yX0_holds : MethodName := ⟨RX0, "holds", "(I)I"⟩
def dkwX0_holds_2 : List UInt8 := [180, 0, 154, 96, 167, 0, 7, 44, 184, 0, 95, 172]
abbrev dktX0_holds_2 : List UInt8 := dkwX0_holds_2 ++ []
def dkwX0_holds_1 : List UInt8 := [180, 0, 69, 27, 50, 180, 0, 113, 77, 44, 193, 0, 7, 153, 0, 16, 16, 10, 44, 192, 0, 7]
abbrev dktX0_holds_1 : List UInt8 := dkwX0_holds_1 ++ dktX0_holds_2
def dkwX0_holds_0 : List UInt8 := [27, 184, 0, 101, 153, 0, 15, 42, 180, 0, 69, 27, 50, 180, 0, 113, 199, 0, 5, 2, 172, 42]
abbrev dktX0_holds_0 : List UInt8 := dkwX0_holds_0 ++ dktX0_holds_1
theorem dksX0_holds_0 : cX0_holds.data.toList.drop 0 = dktX0_holds_0 := by decide +kernel
theorem dksX0_holds_1 : cX0_holds.data.toList.drop 22 = dktX0_holds_1 := dk_seg dksX0_holds_0 22 rfl rfl
theorem dksX0_holds_2 : cX0_holds.data.toList.drop 44 = dktX0_holds_2 := dk_seg dksX0_holds_1 22 rfl rfl
theorem dX0_holds_0 : decode cX0_holds 0 = .ok (.iload_n 1, 1) := dk_27 (dk_at dksX0_holds_0 0 rfl rfl)
theorem dX0_holds_1 : decode cX0_holds 1 = .ok (.invokestatic 101, 3) := dk_184 0 101 (dk_at dksX0_holds_0 1 rfl rfl)
theorem dX0_holds_4 : decode cX0_holds 4 = .ok (.ifCond .eq 15, 3) := dk_153 0 15 (dk_at dksX0_holds_0 4 rfl rfl)
theorem dX0_holds_7 : decode cX0_holds 7 = .ok (.aload_n 0, 1) := dk_42 (dk_at dksX0_holds_0 7 rfl rfl)
theorem dX0_holds_8 : decode cX0_holds 8 = .ok (.getfield 69, 3) := dk_180 0 69 (dk_at dksX0_holds_0 8 rfl rfl)
theorem dX0_holds_11 : decode cX0_holds 11 = .ok (.iload_n 1, 1) := dk_27 (dk_at dksX0_holds_0 11 rfl rfl)
theorem dX0_holds_12 : decode cX0_holds 12 = .ok (.aaload, 1) := dk_50 (dk_at dksX0_holds_0 12 rfl rfl)
theorem dX0_holds_13 : decode cX0_holds 13 = .ok (.getfield 113, 3) := dk_180 0 113 (dk_at dksX0_holds_0 13 rfl rfl)
theorem dX0_holds_16 : decode cX0_holds 16 = .ok (.ifnonnull 5, 3) := dk_199 0 5 (dk_at dksX0_holds_0 16 rfl rfl)
theorem dX0_holds_19 : decode cX0_holds 19 = .ok (.iconst (-1), 1) := dk_2 (dk_at dksX0_holds_0 19 rfl rfl)
theorem dX0_holds_20 : decode cX0_holds 20 = .ok (.ireturn, 1) := dk_172 (dk_at dksX0_holds_0 20 rfl rfl)
theorem dX0_holds_21 : decode cX0_holds 21 = .ok (.aload_n 0, 1) := dk_42 (dk_at dksX0_holds_0 21 rfl rfl)
theorem dX0_holds_22 : decode cX0_holds 22 = .ok (.getfield 69, 3) := dk_180 0 69 (dk_at dksX0_holds_1 0 rfl rfl)
theorem dX0_holds_25 : decode cX0_holds 25 = .ok (.iload_n 1, 1) := dk_27 (dk_at dksX0_holds_1 3 rfl rfl)
theorem dX0_holds_26 : decode cX0_holds 26 = .ok (.aaload, 1) := dk_50 (dk_at dksX0_holds_1 4 rfl rfl)
theorem dX0_holds_27 : decode cX0_holds 27 = .ok (.getfield 113, 3) := dk_180 0 113 (dk_at dksX0_holds_1 5 rfl rfl)
theorem dX0_holds_30 : decode cX0_holds 30 = .ok (.astore_n 2, 1) := dk_77 (dk_at dksX0_holds_1 8 rfl rfl)
theorem dX0_holds_31 : decode cX0_holds 31 = .ok (.aload_n 2, 1) := dk_44 (dk_at dksX0_holds_1 9 rfl rfl)
theorem dX0_holds_32 : decode cX0_holds 32 = .ok (.instanceof 7, 3) := dk_193 0 7 (dk_at dksX0_holds_1 10 rfl rfl)
theorem dX0_holds_35 : decode cX0_holds 35 = .ok (.ifCond .eq 16, 3) := dk_153 0 16 (dk_at dksX0_holds_1 13 rfl rfl)
theorem dX0_holds_38 : decode cX0_holds 38 = .ok (.bipush 10, 2) := dk_16 10 (dk_at dksX0_holds_1 16 rfl rfl)
theorem dX0_holds_40 : decode cX0_holds 40 = .ok (.aload_n 2, 1) := dk_44 (dk_at dksX0_holds_1 18 rfl rfl)
theorem dX0_holds_41 : decode cX0_holds 41 = .ok (.checkcast 7, 3) := dk_192 0 7 (dk_at dksX0_holds_1 19 rfl rfl)
theorem dX0_holds_44 : decode cX0_holds 44 = .ok (.getfield 154, 3) := dk_180 0 154 (dk_at dksX0_holds_2 0 rfl rfl)
theorem dX0_holds_47 : decode cX0_holds 47 = .ok (.iadd, 1) := dk_96 (dk_at dksX0_holds_2 3 rfl rfl)
theorem dX0_holds_48 : decode cX0_holds 48 = .ok (.goto 7, 3) := dk_167 0 7 (dk_at dksX0_holds_2 4 rfl rfl)
theorem dX0_holds_51 : decode cX0_holds 51 = .ok (.aload_n 2, 1) := dk_44 (dk_at dksX0_holds_2 7 rfl rfl)
theorem dX0_holds_52 : decode cX0_holds 52 = .ok (.invokestatic 95, 3) := dk_184 0 95 (dk_at dksX0_holds_2 8 rfl rfl)
theorem dX0_holds_55 : decode cX0_holds 55 = .ok (.ireturn, 1) := dk_172 (dk_at dksX0_holds_2 11 rfl rfl)
abbrev cX0_show : ByteArray := prog_1_method_21_code
def yX0_show : MethodName := ⟨RX0, "show", "(II)I"⟩
def dkwX0_show_2 : List UInt8 := [180, 0, 36, 180, 0, 160, 28, 50, 181, 0, 113, 4, 172]
abbrev dktX0_show_2 : List UInt8 := dkwX0_show_2 ++ []
def dkwX0_show_1 : List UInt8 := [16, 254, 182, 0, 105, 172, 42, 180, 0, 69, 27, 50, 28, 2, 160, 0, 7, 1, 167, 0, 12, 42]
abbrev dktX0_show_1 : List UInt8 := dkwX0_show_1 ++ dktX0_show_2
def dkwX0_show_0 : List UInt8 := [27, 184, 0, 101, 153, 0, 19, 28, 2, 159, 0, 21, 42, 180, 0, 36, 28, 182, 0, 157, 154, 0, 10, 42]
abbrev dktX0_show_0 : List UInt8 := dkwX0_show_0 ++ dktX0_show_1
theorem dksX0_show_0 : cX0_show.data.toList.drop 0 = dktX0_show_0 := by decide +kernel
theorem dksX0_show_1 : cX0_show.data.toList.drop 24 = dktX0_show_1 := dk_seg dksX0_show_0 24 rfl rfl
theorem dksX0_show_2 : cX0_show.data.toList.drop 46 = dktX0_show_2 := dk_seg dksX0_show_1 22 rfl rfl
theorem dX0_show_0 : decode cX0_show 0 = .ok (.iload_n 1, 1) := dk_27 (dk_at dksX0_show_0 0 rfl rfl)
theorem dX0_show_1 : decode cX0_show 1 = .ok (.invokestatic 101, 3) := dk_184 0 101 (dk_at dksX0_show_0 1 rfl rfl)
theorem dX0_show_4 : decode cX0_show 4 = .ok (.ifCond .eq 19, 3) := dk_153 0 19 (dk_at dksX0_show_0 4 rfl rfl)
theorem dX0_show_7 : decode cX0_show 7 = .ok (.iload_n 2, 1) := dk_28 (dk_at dksX0_show_0 7 rfl rfl)
theorem dX0_show_8 : decode cX0_show 8 = .ok (.iconst (-1), 1) := dk_2 (dk_at dksX0_show_0 8 rfl rfl)
theorem dX0_show_9 : decode cX0_show 9 = .ok (.if_icmp .eq 21, 3) := dk_159 0 21 (dk_at dksX0_show_0 9 rfl rfl)
theorem dX0_show_12 : decode cX0_show 12 = .ok (.aload_n 0, 1) := dk_42 (dk_at dksX0_show_0 12 rfl rfl)
theorem dX0_show_13 : decode cX0_show 13 = .ok (.getfield 36, 3) := dk_180 0 36 (dk_at dksX0_show_0 13 rfl rfl)
theorem dX0_show_16 : decode cX0_show 16 = .ok (.iload_n 2, 1) := dk_28 (dk_at dksX0_show_0 16 rfl rfl)
theorem dX0_show_17 : decode cX0_show 17 = .ok (.invokevirtual 157, 3) := dk_182 0 157 (dk_at dksX0_show_0 17 rfl rfl)
theorem dX0_show_20 : decode cX0_show 20 = .ok (.ifCond .ne 10, 3) := dk_154 0 10 (dk_at dksX0_show_0 20 rfl rfl)
theorem dX0_show_23 : decode cX0_show 23 = .ok (.aload_n 0, 1) := dk_42 (dk_at dksX0_show_0 23 rfl rfl)
theorem dX0_show_24 : decode cX0_show 24 = .ok (.bipush (-2), 2) := dk_16 254 (dk_at dksX0_show_1 0 rfl rfl)
theorem dX0_show_26 : decode cX0_show 26 = .ok (.invokevirtual 105, 3) := dk_182 0 105 (dk_at dksX0_show_1 2 rfl rfl)
theorem dX0_show_29 : decode cX0_show 29 = .ok (.ireturn, 1) := dk_172 (dk_at dksX0_show_1 5 rfl rfl)
theorem dX0_show_30 : decode cX0_show 30 = .ok (.aload_n 0, 1) := dk_42 (dk_at dksX0_show_1 6 rfl rfl)
theorem dX0_show_31 : decode cX0_show 31 = .ok (.getfield 69, 3) := dk_180 0 69 (dk_at dksX0_show_1 7 rfl rfl)
theorem dX0_show_34 : decode cX0_show 34 = .ok (.iload_n 1, 1) := dk_27 (dk_at dksX0_show_1 10 rfl rfl)
theorem dX0_show_35 : decode cX0_show 35 = .ok (.aaload, 1) := dk_50 (dk_at dksX0_show_1 11 rfl rfl)
theorem dX0_show_36 : decode cX0_show 36 = .ok (.iload_n 2, 1) := dk_28 (dk_at dksX0_show_1 12 rfl rfl)
theorem dX0_show_37 : decode cX0_show 37 = .ok (.iconst (-1), 1) := dk_2 (dk_at dksX0_show_1 13 rfl rfl)
theorem dX0_show_38 : decode cX0_show 38 = .ok (.if_icmp .ne 7, 3) := dk_160 0 7 (dk_at dksX0_show_1 14 rfl rfl)
theorem dX0_show_41 : decode cX0_show 41 = .ok (.aconst_null, 1) := dk_1 (dk_at dksX0_show_1 17 rfl rfl)
theorem dX0_show_42 : decode cX0_show 42 = .ok (.goto 12, 3) := dk_167 0 12 (dk_at dksX0_show_1 18 rfl rfl)
theorem dX0_show_45 : decode cX0_show 45 = .ok (.aload_n 0, 1) := dk_42 (dk_at dksX0_show_1 21 rfl rfl)
theorem dX0_show_46 : decode cX0_show 46 = .ok (.getfield 36, 3) := dk_180 0 36 (dk_at dksX0_show_2 0 rfl rfl)
theorem dX0_show_49 : decode cX0_show 49 = .ok (.getfield 160, 3) := dk_180 0 160 (dk_at dksX0_show_2 3 rfl rfl)
theorem dX0_show_52 : decode cX0_show 52 = .ok (.iload_n 2, 1) := dk_28 (dk_at dksX0_show_2 6 rfl rfl)
theorem dX0_show_53 : decode cX0_show 53 = .ok (.aaload, 1) := dk_50 (dk_at dksX0_show_2 7 rfl rfl)
theorem dX0_show_54 : decode cX0_show 54 = .ok (.putfield 113, 3) := dk_181 0 113 (dk_at dksX0_show_2 8 rfl rfl)
theorem dX0_show_57 : decode cX0_show 57 = .ok (.iconst 1, 1) := dk_4 (dk_at dksX0_show_2 11 rfl rfl)
theorem dX0_show_58 : decode cX0_show 58 = .ok (.ireturn, 1) := dk_172 (dk_at dksX0_show_2 12 rfl rfl)
abbrev cX0_says : ByteArray := prog_1_method_23_code
def yX0_says : MethodName := ⟨RX0, "says", "(II)I"⟩
def dkwX0_says_5 : List UInt8 := [182, 0, 174, 172, 42, 45, 192, 0, 25, 182, 0, 174, 172, 58, 4, 42, 16, 253, 182, 0, 105, 172]
abbrev dktX0_says_5 : List UInt8 := dkwX0_says_5 ++ []
def dkwX0_says_4 : List UInt8 := [172, 42, 45, 192, 0, 16, 182, 0, 174, 172, 42, 45, 192, 0, 19, 182, 0, 174, 172, 42, 45, 192, 0, 22]
abbrev dktX0_says_4 : List UInt8 := dkwX0_says_4 ++ dktX0_says_5
def dkwX0_says_3 : List UInt8 := [42, 180, 0, 36, 180, 0, 171, 45, 192, 0, 7, 180, 0, 154, 46, 172, 42, 45, 192, 0, 13, 182, 0, 174]
abbrev dktX0_says_3 : List UInt8 := dkwX0_says_3 ++ dktX0_says_4
def dkwX0_says_2 : List UInt8 := [170, 0, 0, 0, 0, 0, 87, 0, 0, 0, 0, 0, 0, 0, 4, 0, 0, 0, 35, 0, 0, 0, 51, 0, 0, 0, 60, 0, 0, 0, 69, 0, 0, 0, 78]
abbrev dktX0_says_2 : List UInt8 := dkwX0_says_2 ++ dktX0_says_3
def dkwX0_says_1 : List UInt8 := [180, 0, 69, 27, 50, 180, 0, 113, 78, 45, 199, 0, 10, 42, 16, 252, 182, 0, 105, 172, 28]
abbrev dktX0_says_1 : List UInt8 := dkwX0_says_1 ++ dktX0_says_2
def dkwX0_says_0 : List UInt8 := [27, 184, 0, 101, 153, 0, 12, 28, 3, 8, 184, 0, 3, 154, 0, 10, 42, 16, 254, 182, 0, 105, 172, 42]
abbrev dktX0_says_0 : List UInt8 := dkwX0_says_0 ++ dktX0_says_1
theorem dksX0_says_0 : cX0_says.data.toList.drop 0 = dktX0_says_0 := by decide +kernel
theorem dksX0_says_1 : cX0_says.data.toList.drop 24 = dktX0_says_1 := dk_seg dksX0_says_0 24 rfl rfl
theorem dksX0_says_2 : cX0_says.data.toList.drop 45 = dktX0_says_2 := dk_seg dksX0_says_1 21 rfl rfl
theorem dksX0_says_3 : cX0_says.data.toList.drop 80 = dktX0_says_3 := dk_seg dksX0_says_2 35 rfl rfl
theorem dksX0_says_4 : cX0_says.data.toList.drop 104 = dktX0_says_4 := dk_seg dksX0_says_3 24 rfl rfl
theorem dksX0_says_5 : cX0_says.data.toList.drop 128 = dktX0_says_5 := dk_seg dksX0_says_4 24 rfl rfl
theorem dX0_says_0 : decode cX0_says 0 = .ok (.iload_n 1, 1) := dk_27 (dk_at dksX0_says_0 0 rfl rfl)
theorem dX0_says_1 : decode cX0_says 1 = .ok (.invokestatic 101, 3) := dk_184 0 101 (dk_at dksX0_says_0 1 rfl rfl)
theorem dX0_says_4 : decode cX0_says 4 = .ok (.ifCond .eq 12, 3) := dk_153 0 12 (dk_at dksX0_says_0 4 rfl rfl)
theorem dX0_says_7 : decode cX0_says 7 = .ok (.iload_n 2, 1) := dk_28 (dk_at dksX0_says_0 7 rfl rfl)
theorem dX0_says_8 : decode cX0_says 8 = .ok (.iconst 0, 1) := dk_3 (dk_at dksX0_says_0 8 rfl rfl)
theorem dX0_says_9 : decode cX0_says 9 = .ok (.iconst 5, 1) := dk_8 (dk_at dksX0_says_0 9 rfl rfl)
theorem dX0_says_10 : decode cX0_says 10 = .ok (.invokestatic 3, 3) := dk_184 0 3 (dk_at dksX0_says_0 10 rfl rfl)
theorem dX0_says_13 : decode cX0_says 13 = .ok (.ifCond .ne 10, 3) := dk_154 0 10 (dk_at dksX0_says_0 13 rfl rfl)
theorem dX0_says_16 : decode cX0_says 16 = .ok (.aload_n 0, 1) := dk_42 (dk_at dksX0_says_0 16 rfl rfl)
theorem dX0_says_17 : decode cX0_says 17 = .ok (.bipush (-2), 2) := dk_16 254 (dk_at dksX0_says_0 17 rfl rfl)
theorem dX0_says_19 : decode cX0_says 19 = .ok (.invokevirtual 105, 3) := dk_182 0 105 (dk_at dksX0_says_0 19 rfl rfl)
theorem dX0_says_22 : decode cX0_says 22 = .ok (.ireturn, 1) := dk_172 (dk_at dksX0_says_0 22 rfl rfl)
theorem dX0_says_23 : decode cX0_says 23 = .ok (.aload_n 0, 1) := dk_42 (dk_at dksX0_says_0 23 rfl rfl)
theorem dX0_says_24 : decode cX0_says 24 = .ok (.getfield 69, 3) := dk_180 0 69 (dk_at dksX0_says_1 0 rfl rfl)
theorem dX0_says_27 : decode cX0_says 27 = .ok (.iload_n 1, 1) := dk_27 (dk_at dksX0_says_1 3 rfl rfl)
theorem dX0_says_28 : decode cX0_says 28 = .ok (.aaload, 1) := dk_50 (dk_at dksX0_says_1 4 rfl rfl)
theorem dX0_says_29 : decode cX0_says 29 = .ok (.getfield 113, 3) := dk_180 0 113 (dk_at dksX0_says_1 5 rfl rfl)
theorem dX0_says_32 : decode cX0_says 32 = .ok (.astore_n 3, 1) := dk_78 (dk_at dksX0_says_1 8 rfl rfl)
theorem dX0_says_33 : decode cX0_says 33 = .ok (.aload_n 3, 1) := dk_45 (dk_at dksX0_says_1 9 rfl rfl)
theorem dX0_says_34 : decode cX0_says 34 = .ok (.ifnonnull 10, 3) := dk_199 0 10 (dk_at dksX0_says_1 10 rfl rfl)
theorem dX0_says_37 : decode cX0_says 37 = .ok (.aload_n 0, 1) := dk_42 (dk_at dksX0_says_1 13 rfl rfl)
theorem dX0_says_38 : decode cX0_says 38 = .ok (.bipush (-4), 2) := dk_16 252 (dk_at dksX0_says_1 14 rfl rfl)
theorem dX0_says_40 : decode cX0_says 40 = .ok (.invokevirtual 105, 3) := dk_182 0 105 (dk_at dksX0_says_1 16 rfl rfl)
theorem dX0_says_43 : decode cX0_says 43 = .ok (.ireturn, 1) := dk_172 (dk_at dksX0_says_1 19 rfl rfl)
theorem dX0_says_44 : decode cX0_says 44 = .ok (.iload_n 2, 1) := dk_28 (dk_at dksX0_says_1 20 rfl rfl)
theorem dX0_says_45 : decode cX0_says 45 = .ok (.tableswitch 87 0 4 #[35, 51, 60, 69, 78], 35) := by decide +kernel
theorem dX0_says_80 : decode cX0_says 80 = .ok (.aload_n 0, 1) := dk_42 (dk_at dksX0_says_3 0 rfl rfl)
theorem dX0_says_81 : decode cX0_says 81 = .ok (.getfield 36, 3) := dk_180 0 36 (dk_at dksX0_says_3 1 rfl rfl)
theorem dX0_says_84 : decode cX0_says 84 = .ok (.getfield 171, 3) := dk_180 0 171 (dk_at dksX0_says_3 4 rfl rfl)
theorem dX0_says_87 : decode cX0_says 87 = .ok (.aload_n 3, 1) := dk_45 (dk_at dksX0_says_3 7 rfl rfl)
theorem dX0_says_88 : decode cX0_says 88 = .ok (.checkcast 7, 3) := dk_192 0 7 (dk_at dksX0_says_3 8 rfl rfl)
theorem dX0_says_91 : decode cX0_says 91 = .ok (.getfield 154, 3) := dk_180 0 154 (dk_at dksX0_says_3 11 rfl rfl)
theorem dX0_says_94 : decode cX0_says 94 = .ok (.iaload, 1) := dk_46 (dk_at dksX0_says_3 14 rfl rfl)
theorem dX0_says_95 : decode cX0_says 95 = .ok (.ireturn, 1) := dk_172 (dk_at dksX0_says_3 15 rfl rfl)
theorem dX0_says_96 : decode cX0_says 96 = .ok (.aload_n 0, 1) := dk_42 (dk_at dksX0_says_3 16 rfl rfl)
theorem dX0_says_97 : decode cX0_says 97 = .ok (.aload_n 3, 1) := dk_45 (dk_at dksX0_says_3 17 rfl rfl)
theorem dX0_says_98 : decode cX0_says 98 = .ok (.checkcast 13, 3) := dk_192 0 13 (dk_at dksX0_says_3 18 rfl rfl)
theorem dX0_says_101 : decode cX0_says 101 = .ok (.invokevirtual 174, 3) := dk_182 0 174 (dk_at dksX0_says_3 21 rfl rfl)
theorem dX0_says_104 : decode cX0_says 104 = .ok (.ireturn, 1) := dk_172 (dk_at dksX0_says_4 0 rfl rfl)
theorem dX0_says_105 : decode cX0_says 105 = .ok (.aload_n 0, 1) := dk_42 (dk_at dksX0_says_4 1 rfl rfl)
theorem dX0_says_106 : decode cX0_says 106 = .ok (.aload_n 3, 1) := dk_45 (dk_at dksX0_says_4 2 rfl rfl)
theorem dX0_says_107 : decode cX0_says 107 = .ok (.checkcast 16, 3) := dk_192 0 16 (dk_at dksX0_says_4 3 rfl rfl)
theorem dX0_says_110 : decode cX0_says 110 = .ok (.invokevirtual 174, 3) := dk_182 0 174 (dk_at dksX0_says_4 6 rfl rfl)
theorem dX0_says_113 : decode cX0_says 113 = .ok (.ireturn, 1) := dk_172 (dk_at dksX0_says_4 9 rfl rfl)
theorem dX0_says_114 : decode cX0_says 114 = .ok (.aload_n 0, 1) := dk_42 (dk_at dksX0_says_4 10 rfl rfl)
theorem dX0_says_115 : decode cX0_says 115 = .ok (.aload_n 3, 1) := dk_45 (dk_at dksX0_says_4 11 rfl rfl)
theorem dX0_says_116 : decode cX0_says 116 = .ok (.checkcast 19, 3) := dk_192 0 19 (dk_at dksX0_says_4 12 rfl rfl)
theorem dX0_says_119 : decode cX0_says 119 = .ok (.invokevirtual 174, 3) := dk_182 0 174 (dk_at dksX0_says_4 15 rfl rfl)
theorem dX0_says_122 : decode cX0_says 122 = .ok (.ireturn, 1) := dk_172 (dk_at dksX0_says_4 18 rfl rfl)
theorem dX0_says_123 : decode cX0_says 123 = .ok (.aload_n 0, 1) := dk_42 (dk_at dksX0_says_4 19 rfl rfl)
theorem dX0_says_124 : decode cX0_says 124 = .ok (.aload_n 3, 1) := dk_45 (dk_at dksX0_says_4 20 rfl rfl)
theorem dX0_says_125 : decode cX0_says 125 = .ok (.checkcast 22, 3) := dk_192 0 22 (dk_at dksX0_says_4 21 rfl rfl)
theorem dX0_says_128 : decode cX0_says 128 = .ok (.invokevirtual 174, 3) := dk_182 0 174 (dk_at dksX0_says_5 0 rfl rfl)
theorem dX0_says_131 : decode cX0_says 131 = .ok (.ireturn, 1) := dk_172 (dk_at dksX0_says_5 3 rfl rfl)
theorem dX0_says_132 : decode cX0_says 132 = .ok (.aload_n 0, 1) := dk_42 (dk_at dksX0_says_5 4 rfl rfl)
theorem dX0_says_133 : decode cX0_says 133 = .ok (.aload_n 3, 1) := dk_45 (dk_at dksX0_says_5 5 rfl rfl)
theorem dX0_says_134 : decode cX0_says 134 = .ok (.checkcast 25, 3) := dk_192 0 25 (dk_at dksX0_says_5 6 rfl rfl)
theorem dX0_says_137 : decode cX0_says 137 = .ok (.invokevirtual 174, 3) := dk_182 0 174 (dk_at dksX0_says_5 9 rfl rfl)
theorem dX0_says_140 : decode cX0_says 140 = .ok (.ireturn, 1) := dk_172 (dk_at dksX0_says_5 12 rfl rfl)
theorem dX0_says_141 : decode cX0_says 141 = .ok (.astore 4, 2) := dk_58 4 (dk_at dksX0_says_5 13 rfl rfl)
theorem dX0_says_143 : decode cX0_says 143 = .ok (.aload_n 0, 1) := dk_42 (dk_at dksX0_says_5 15 rfl rfl)
theorem dX0_says_144 : decode cX0_says 144 = .ok (.bipush (-3), 2) := dk_16 253 (dk_at dksX0_says_5 16 rfl rfl)
theorem dX0_says_146 : decode cX0_says 146 = .ok (.invokevirtual 105, 3) := dk_182 0 105 (dk_at dksX0_says_5 18 rfl rfl)
theorem dX0_says_149 : decode cX0_says 149 = .ok (.ireturn, 1) := dk_172 (dk_at dksX0_says_5 21 rfl rfl)
abbrev cX0_alone : ByteArray := prog_1_method_22_code
def yX0_alone : MethodName := ⟨RX0, "alone", "(LSeenInOrderOfAge$Looker;)I"⟩
def dkwX0_alone_1 : List UInt8 := [46, 172]
abbrev dktX0_alone_1 : List UInt8 := dkwX0_alone_1 ++ []
def dkwX0_alone_0 : List UInt8 := [42, 180, 0, 53, 42, 180, 0, 36, 4, 43, 180, 0, 154, 120, 182, 0, 164, 180, 0, 168, 43, 180, 0, 154]
abbrev dktX0_alone_0 : List UInt8 := dkwX0_alone_0 ++ dktX0_alone_1
theorem dksX0_alone_0 : cX0_alone.data.toList.drop 0 = dktX0_alone_0 := by decide +kernel
theorem dksX0_alone_1 : cX0_alone.data.toList.drop 24 = dktX0_alone_1 := dk_seg dksX0_alone_0 24 rfl rfl
theorem dX0_alone_0 : decode cX0_alone 0 = .ok (.aload_n 0, 1) := dk_42 (dk_at dksX0_alone_0 0 rfl rfl)
theorem dX0_alone_1 : decode cX0_alone 1 = .ok (.getfield 53, 3) := dk_180 0 53 (dk_at dksX0_alone_0 1 rfl rfl)
theorem dX0_alone_4 : decode cX0_alone 4 = .ok (.aload_n 0, 1) := dk_42 (dk_at dksX0_alone_0 4 rfl rfl)
theorem dX0_alone_5 : decode cX0_alone 5 = .ok (.getfield 36, 3) := dk_180 0 36 (dk_at dksX0_alone_0 5 rfl rfl)
theorem dX0_alone_8 : decode cX0_alone 8 = .ok (.iconst 1, 1) := dk_4 (dk_at dksX0_alone_0 8 rfl rfl)
theorem dX0_alone_9 : decode cX0_alone 9 = .ok (.aload_n 1, 1) := dk_43 (dk_at dksX0_alone_0 9 rfl rfl)
theorem dX0_alone_10 : decode cX0_alone 10 = .ok (.getfield 154, 3) := dk_180 0 154 (dk_at dksX0_alone_0 10 rfl rfl)
theorem dX0_alone_13 : decode cX0_alone 13 = .ok (.ishl, 1) := dk_120 (dk_at dksX0_alone_0 13 rfl rfl)
theorem dX0_alone_14 : decode cX0_alone 14 = .ok (.invokevirtual 164, 3) := dk_182 0 164 (dk_at dksX0_alone_0 14 rfl rfl)
theorem dX0_alone_17 : decode cX0_alone 17 = .ok (.getfield 168, 3) := dk_180 0 168 (dk_at dksX0_alone_0 17 rfl rfl)
theorem dX0_alone_20 : decode cX0_alone 20 = .ok (.aload_n 1, 1) := dk_43 (dk_at dksX0_alone_0 20 rfl rfl)
theorem dX0_alone_21 : decode cX0_alone 21 = .ok (.getfield 154, 3) := dk_180 0 154 (dk_at dksX0_alone_0 21 rfl rfl)
theorem dX0_alone_24 : decode cX0_alone 24 = .ok (.iaload, 1) := dk_46 (dk_at dksX0_alone_1 0 rfl rfl)
theorem dX0_alone_25 : decode cX0_alone 25 = .ok (.ireturn, 1) := dk_172 (dk_at dksX0_alone_1 1 rfl rfl)
abbrev cX0_has : ByteArray := prog_1_method_2_code
def yX0_has : MethodName := ⟨RX0, "has", "(II)Z"⟩
def dkwX0_has_0 : List UInt8 := [26, 27, 122, 4, 126, 4, 160, 0, 7, 4, 167, 0, 4, 3, 172]
abbrev dktX0_has_0 : List UInt8 := dkwX0_has_0 ++ []
theorem dksX0_has_0 : cX0_has.data.toList.drop 0 = dktX0_has_0 := by decide +kernel
theorem dX0_has_0 : decode cX0_has 0 = .ok (.iload_n 0, 1) := dk_26 (dk_at dksX0_has_0 0 rfl rfl)
theorem dX0_has_1 : decode cX0_has 1 = .ok (.iload_n 1, 1) := dk_27 (dk_at dksX0_has_0 1 rfl rfl)
theorem dX0_has_2 : decode cX0_has 2 = .ok (.ishr, 1) := dk_122 (dk_at dksX0_has_0 2 rfl rfl)
theorem dX0_has_3 : decode cX0_has 3 = .ok (.iconst 1, 1) := dk_4 (dk_at dksX0_has_0 3 rfl rfl)
theorem dX0_has_4 : decode cX0_has 4 = .ok (.iand, 1) := dk_126 (dk_at dksX0_has_0 4 rfl rfl)
theorem dX0_has_5 : decode cX0_has 5 = .ok (.iconst 1, 1) := dk_4 (dk_at dksX0_has_0 5 rfl rfl)
theorem dX0_has_6 : decode cX0_has 6 = .ok (.if_icmp .ne 7, 3) := dk_160 0 7 (dk_at dksX0_has_0 6 rfl rfl)
theorem dX0_has_9 : decode cX0_has 9 = .ok (.iconst 1, 1) := dk_4 (dk_at dksX0_has_0 9 rfl rfl)
theorem dX0_has_10 : decode cX0_has 10 = .ok (.goto 4, 3) := dk_167 0 4 (dk_at dksX0_has_0 10 rfl rfl)
theorem dX0_has_13 : decode cX0_has 13 = .ok (.iconst 0, 1) := dk_3 (dk_at dksX0_has_0 13 rfl rfl)
theorem dX0_has_14 : decode cX0_has 14 = .ok (.ireturn, 1) := dk_172 (dk_at dksX0_has_0 14 rfl rfl)
abbrev cX0_place : ByteArray := prog_1_method_25_code
def yX0_place : MethodName := ⟨RX0, "place", "(II)I"⟩
def dkwX0_place_2 : List UInt8 := [180, 0, 189, 27, 28, 79, 29, 172]
abbrev dktX0_place_2 : List UInt8 := dkwX0_place_2 ++ []
def dkwX0_place_1 : List UInt8 := [182, 0, 105, 172, 42, 180, 0, 36, 180, 0, 186, 180, 0, 189, 27, 46, 62, 42, 180, 0, 36, 180, 0, 186]
abbrev dktX0_place_1 : List UInt8 := dkwX0_place_1 ++ dktX0_place_2
def dkwX0_place_0 : List UInt8 := [27, 184, 0, 180, 153, 0, 15, 28, 2, 159, 0, 17, 28, 184, 0, 183, 154, 0, 10, 42, 16, 254]
abbrev dktX0_place_0 : List UInt8 := dkwX0_place_0 ++ dktX0_place_1
theorem dksX0_place_0 : cX0_place.data.toList.drop 0 = dktX0_place_0 := by decide +kernel
theorem dksX0_place_1 : cX0_place.data.toList.drop 22 = dktX0_place_1 := dk_seg dksX0_place_0 22 rfl rfl
theorem dksX0_place_2 : cX0_place.data.toList.drop 46 = dktX0_place_2 := dk_seg dksX0_place_1 24 rfl rfl
theorem dX0_place_0 : decode cX0_place 0 = .ok (.iload_n 1, 1) := dk_27 (dk_at dksX0_place_0 0 rfl rfl)
theorem dX0_place_1 : decode cX0_place 1 = .ok (.invokestatic 180, 3) := dk_184 0 180 (dk_at dksX0_place_0 1 rfl rfl)
theorem dX0_place_4 : decode cX0_place 4 = .ok (.ifCond .eq 15, 3) := dk_153 0 15 (dk_at dksX0_place_0 4 rfl rfl)
theorem dX0_place_7 : decode cX0_place 7 = .ok (.iload_n 2, 1) := dk_28 (dk_at dksX0_place_0 7 rfl rfl)
theorem dX0_place_8 : decode cX0_place 8 = .ok (.iconst (-1), 1) := dk_2 (dk_at dksX0_place_0 8 rfl rfl)
theorem dX0_place_9 : decode cX0_place 9 = .ok (.if_icmp .eq 17, 3) := dk_159 0 17 (dk_at dksX0_place_0 9 rfl rfl)
theorem dX0_place_12 : decode cX0_place 12 = .ok (.iload_n 2, 1) := dk_28 (dk_at dksX0_place_0 12 rfl rfl)
theorem dX0_place_13 : decode cX0_place 13 = .ok (.invokestatic 183, 3) := dk_184 0 183 (dk_at dksX0_place_0 13 rfl rfl)
theorem dX0_place_16 : decode cX0_place 16 = .ok (.ifCond .ne 10, 3) := dk_154 0 10 (dk_at dksX0_place_0 16 rfl rfl)
theorem dX0_place_19 : decode cX0_place 19 = .ok (.aload_n 0, 1) := dk_42 (dk_at dksX0_place_0 19 rfl rfl)
theorem dX0_place_20 : decode cX0_place 20 = .ok (.bipush (-2), 2) := dk_16 254 (dk_at dksX0_place_0 20 rfl rfl)
theorem dX0_place_22 : decode cX0_place 22 = .ok (.invokevirtual 105, 3) := dk_182 0 105 (dk_at dksX0_place_1 0 rfl rfl)
theorem dX0_place_25 : decode cX0_place 25 = .ok (.ireturn, 1) := dk_172 (dk_at dksX0_place_1 3 rfl rfl)
theorem dX0_place_26 : decode cX0_place 26 = .ok (.aload_n 0, 1) := dk_42 (dk_at dksX0_place_1 4 rfl rfl)
theorem dX0_place_27 : decode cX0_place 27 = .ok (.getfield 36, 3) := dk_180 0 36 (dk_at dksX0_place_1 5 rfl rfl)
theorem dX0_place_30 : decode cX0_place 30 = .ok (.getfield 186, 3) := dk_180 0 186 (dk_at dksX0_place_1 8 rfl rfl)
theorem dX0_place_33 : decode cX0_place 33 = .ok (.getfield 189, 3) := dk_180 0 189 (dk_at dksX0_place_1 11 rfl rfl)
theorem dX0_place_36 : decode cX0_place 36 = .ok (.iload_n 1, 1) := dk_27 (dk_at dksX0_place_1 14 rfl rfl)
theorem dX0_place_37 : decode cX0_place 37 = .ok (.iaload, 1) := dk_46 (dk_at dksX0_place_1 15 rfl rfl)
theorem dX0_place_38 : decode cX0_place 38 = .ok (.istore_n 3, 1) := dk_62 (dk_at dksX0_place_1 16 rfl rfl)
theorem dX0_place_39 : decode cX0_place 39 = .ok (.aload_n 0, 1) := dk_42 (dk_at dksX0_place_1 17 rfl rfl)
theorem dX0_place_40 : decode cX0_place 40 = .ok (.getfield 36, 3) := dk_180 0 36 (dk_at dksX0_place_1 18 rfl rfl)
theorem dX0_place_43 : decode cX0_place 43 = .ok (.getfield 186, 3) := dk_180 0 186 (dk_at dksX0_place_1 21 rfl rfl)
theorem dX0_place_46 : decode cX0_place 46 = .ok (.getfield 189, 3) := dk_180 0 189 (dk_at dksX0_place_2 0 rfl rfl)
theorem dX0_place_49 : decode cX0_place 49 = .ok (.iload_n 1, 1) := dk_27 (dk_at dksX0_place_2 3 rfl rfl)
theorem dX0_place_50 : decode cX0_place 50 = .ok (.iload_n 2, 1) := dk_28 (dk_at dksX0_place_2 4 rfl rfl)
theorem dX0_place_51 : decode cX0_place 51 = .ok (.iastore, 1) := dk_79 (dk_at dksX0_place_2 5 rfl rfl)
theorem dX0_place_52 : decode cX0_place 52 = .ok (.iload_n 3, 1) := dk_29 (dk_at dksX0_place_2 6 rfl rfl)
theorem dX0_place_53 : decode cX0_place 53 = .ok (.ireturn, 1) := dk_172 (dk_at dksX0_place_2 7 rfl rfl)
abbrev cX0_isPlace : ByteArray := prog_1_method_3_code
def yX0_isPlace : MethodName := ⟨RX0, "isPlace", "(I)Z"⟩
def dkwX0_isPlace_0 : List UInt8 := [26, 3, 16, 11, 184, 0, 3, 172]
abbrev dktX0_isPlace_0 : List UInt8 := dkwX0_isPlace_0 ++ []
theorem dksX0_isPlace_0 : cX0_isPlace.data.toList.drop 0 = dktX0_isPlace_0 := by decide +kernel
theorem dX0_isPlace_0 : decode cX0_isPlace 0 = .ok (.iload_n 0, 1) := dk_26 (dk_at dksX0_isPlace_0 0 rfl rfl)
theorem dX0_isPlace_1 : decode cX0_isPlace 1 = .ok (.iconst 0, 1) := dk_3 (dk_at dksX0_isPlace_0 1 rfl rfl)
theorem dX0_isPlace_2 : decode cX0_isPlace 2 = .ok (.bipush 11, 2) := dk_16 11 (dk_at dksX0_isPlace_0 2 rfl rfl)
theorem dX0_isPlace_4 : decode cX0_isPlace 4 = .ok (.invokestatic 3, 3) := dk_184 0 3 (dk_at dksX0_isPlace_0 4 rfl rfl)
theorem dX0_isPlace_7 : decode cX0_isPlace 7 = .ok (.ireturn, 1) := dk_172 (dk_at dksX0_isPlace_0 7 rfl rfl)
abbrev cX0_isSort : ByteArray := prog_1_method_4_code
def yX0_isSort : MethodName := ⟨RX0, "isSort", "(I)Z"⟩
def dkwX0_isSort_0 : List UInt8 := [26, 3, 16, 7, 184, 0, 3, 172]
abbrev dktX0_isSort_0 : List UInt8 := dkwX0_isSort_0 ++ []
theorem dksX0_isSort_0 : cX0_isSort.data.toList.drop 0 = dktX0_isSort_0 := by decide +kernel
theorem dX0_isSort_0 : decode cX0_isSort 0 = .ok (.iload_n 0, 1) := dk_26 (dk_at dksX0_isSort_0 0 rfl rfl)
theorem dX0_isSort_1 : decode cX0_isSort 1 = .ok (.iconst 0, 1) := dk_3 (dk_at dksX0_isSort_0 1 rfl rfl)
theorem dX0_isSort_2 : decode cX0_isSort 2 = .ok (.bipush 7, 2) := dk_16 7 (dk_at dksX0_isSort_0 2 rfl rfl)
theorem dX0_isSort_4 : decode cX0_isSort 4 = .ok (.invokestatic 3, 3) := dk_184 0 3 (dk_at dksX0_isSort_0 4 rfl rfl)
theorem dX0_isSort_7 : decode cX0_isSort 7 = .ok (.ireturn, 1) := dk_172 (dk_at dksX0_isSort_0 7 rfl rfl)
abbrev cX0_looker : ByteArray := prog_1_method_26_code
def yX0_looker : MethodName := ⟨RX0, "looker", "(III)I"⟩
def dkwX0_looker_2 : List UInt8 := [16, 250, 182, 0, 105, 167, 0, 13, 42, 180, 0, 36, 27, 28, 29, 182, 0, 195, 172]
abbrev dktX0_looker_2 : List UInt8 := dkwX0_looker_2 ++ []
def dkwX0_looker_1 : List UInt8 := [154, 0, 10, 42, 16, 254, 182, 0, 105, 172, 42, 180, 0, 36, 180, 0, 192, 16, 8, 160, 0, 12, 42]
abbrev dktX0_looker_1 : List UInt8 := dkwX0_looker_1 ++ dktX0_looker_2
def dkwX0_looker_0 : List UInt8 := [27, 3, 8, 184, 0, 3, 153, 0, 20, 28, 184, 0, 183, 153, 0, 13, 29, 3, 16, 99, 184, 0, 3]
abbrev dktX0_looker_0 : List UInt8 := dkwX0_looker_0 ++ dktX0_looker_1
theorem dksX0_looker_0 : cX0_looker.data.toList.drop 0 = dktX0_looker_0 := by decide +kernel
theorem dksX0_looker_1 : cX0_looker.data.toList.drop 23 = dktX0_looker_1 := dk_seg dksX0_looker_0 23 rfl rfl
theorem dksX0_looker_2 : cX0_looker.data.toList.drop 46 = dktX0_looker_2 := dk_seg dksX0_looker_1 23 rfl rfl
theorem dX0_looker_0 : decode cX0_looker 0 = .ok (.iload_n 1, 1) := dk_27 (dk_at dksX0_looker_0 0 rfl rfl)
theorem dX0_looker_1 : decode cX0_looker 1 = .ok (.iconst 0, 1) := dk_3 (dk_at dksX0_looker_0 1 rfl rfl)
theorem dX0_looker_2 : decode cX0_looker 2 = .ok (.iconst 5, 1) := dk_8 (dk_at dksX0_looker_0 2 rfl rfl)
theorem dX0_looker_3 : decode cX0_looker 3 = .ok (.invokestatic 3, 3) := dk_184 0 3 (dk_at dksX0_looker_0 3 rfl rfl)
theorem dX0_looker_6 : decode cX0_looker 6 = .ok (.ifCond .eq 20, 3) := dk_153 0 20 (dk_at dksX0_looker_0 6 rfl rfl)
theorem dX0_looker_9 : decode cX0_looker 9 = .ok (.iload_n 2, 1) := dk_28 (dk_at dksX0_looker_0 9 rfl rfl)
theorem dX0_looker_10 : decode cX0_looker 10 = .ok (.invokestatic 183, 3) := dk_184 0 183 (dk_at dksX0_looker_0 10 rfl rfl)
theorem dX0_looker_13 : decode cX0_looker 13 = .ok (.ifCond .eq 13, 3) := dk_153 0 13 (dk_at dksX0_looker_0 13 rfl rfl)
theorem dX0_looker_16 : decode cX0_looker 16 = .ok (.iload_n 3, 1) := dk_29 (dk_at dksX0_looker_0 16 rfl rfl)
theorem dX0_looker_17 : decode cX0_looker 17 = .ok (.iconst 0, 1) := dk_3 (dk_at dksX0_looker_0 17 rfl rfl)
theorem dX0_looker_18 : decode cX0_looker 18 = .ok (.bipush 99, 2) := dk_16 99 (dk_at dksX0_looker_0 18 rfl rfl)
theorem dX0_looker_20 : decode cX0_looker 20 = .ok (.invokestatic 3, 3) := dk_184 0 3 (dk_at dksX0_looker_0 20 rfl rfl)
theorem dX0_looker_23 : decode cX0_looker 23 = .ok (.ifCond .ne 10, 3) := dk_154 0 10 (dk_at dksX0_looker_1 0 rfl rfl)
theorem dX0_looker_26 : decode cX0_looker 26 = .ok (.aload_n 0, 1) := dk_42 (dk_at dksX0_looker_1 3 rfl rfl)
theorem dX0_looker_27 : decode cX0_looker 27 = .ok (.bipush (-2), 2) := dk_16 254 (dk_at dksX0_looker_1 4 rfl rfl)
theorem dX0_looker_29 : decode cX0_looker 29 = .ok (.invokevirtual 105, 3) := dk_182 0 105 (dk_at dksX0_looker_1 6 rfl rfl)
theorem dX0_looker_32 : decode cX0_looker 32 = .ok (.ireturn, 1) := dk_172 (dk_at dksX0_looker_1 9 rfl rfl)
theorem dX0_looker_33 : decode cX0_looker 33 = .ok (.aload_n 0, 1) := dk_42 (dk_at dksX0_looker_1 10 rfl rfl)
theorem dX0_looker_34 : decode cX0_looker 34 = .ok (.getfield 36, 3) := dk_180 0 36 (dk_at dksX0_looker_1 11 rfl rfl)
theorem dX0_looker_37 : decode cX0_looker 37 = .ok (.getfield 192, 3) := dk_180 0 192 (dk_at dksX0_looker_1 14 rfl rfl)
theorem dX0_looker_40 : decode cX0_looker 40 = .ok (.bipush 8, 2) := dk_16 8 (dk_at dksX0_looker_1 17 rfl rfl)
theorem dX0_looker_42 : decode cX0_looker 42 = .ok (.if_icmp .ne 12, 3) := dk_160 0 12 (dk_at dksX0_looker_1 19 rfl rfl)
theorem dX0_looker_45 : decode cX0_looker 45 = .ok (.aload_n 0, 1) := dk_42 (dk_at dksX0_looker_1 22 rfl rfl)
theorem dX0_looker_46 : decode cX0_looker 46 = .ok (.bipush (-6), 2) := dk_16 250 (dk_at dksX0_looker_2 0 rfl rfl)
theorem dX0_looker_48 : decode cX0_looker 48 = .ok (.invokevirtual 105, 3) := dk_182 0 105 (dk_at dksX0_looker_2 2 rfl rfl)
theorem dX0_looker_51 : decode cX0_looker 51 = .ok (.goto 13, 3) := dk_167 0 13 (dk_at dksX0_looker_2 5 rfl rfl)
theorem dX0_looker_54 : decode cX0_looker 54 = .ok (.aload_n 0, 1) := dk_42 (dk_at dksX0_looker_2 8 rfl rfl)
theorem dX0_looker_55 : decode cX0_looker 55 = .ok (.getfield 36, 3) := dk_180 0 36 (dk_at dksX0_looker_2 9 rfl rfl)
theorem dX0_looker_58 : decode cX0_looker 58 = .ok (.iload_n 1, 1) := dk_27 (dk_at dksX0_looker_2 12 rfl rfl)
theorem dX0_looker_59 : decode cX0_looker 59 = .ok (.iload_n 2, 1) := dk_28 (dk_at dksX0_looker_2 13 rfl rfl)
theorem dX0_looker_60 : decode cX0_looker 60 = .ok (.iload_n 3, 1) := dk_29 (dk_at dksX0_looker_2 14 rfl rfl)
theorem dX0_looker_61 : decode cX0_looker 61 = .ok (.invokevirtual 195, 3) := dk_182 0 195 (dk_at dksX0_looker_2 15 rfl rfl)
theorem dX0_looker_64 : decode cX0_looker 64 = .ok (.ireturn, 1) := dk_172 (dk_at dksX0_looker_2 18 rfl rfl)
abbrev cX0_made : ByteArray := prog_1_method_5_code
def yX0_made : MethodName := ⟨RX0, "made", "(III)LSeenInOrderOfAge$Looker;"⟩
def dkwX0_made_4 : List UInt8 := [183, 0, 24, 176, 187, 0, 25, 89, 27, 28, 183, 0, 27, 176]
abbrev dktX0_made_4 : List UInt8 := dkwX0_made_4 ++ []
def dkwX0_made_3 : List UInt8 := [27, 28, 183, 0, 18, 176, 187, 0, 19, 89, 27, 28, 183, 0, 21, 176, 187, 0, 22, 89, 27, 28]
abbrev dktX0_made_3 : List UInt8 := dkwX0_made_3 ++ dktX0_made_4
def dkwX0_made_2 : List UInt8 := [187, 0, 7, 89, 27, 28, 183, 0, 9, 176, 187, 0, 13, 89, 27, 28, 183, 0, 15, 176, 187, 0, 16, 89]
abbrev dktX0_made_2 : List UInt8 := dkwX0_made_2 ++ dktX0_made_3
def dkwX0_made_1 : List UInt8 := [170, 0, 0, 0, 0, 0, 85, 0, 0, 0, 0, 0, 0, 0, 4, 0, 0, 0, 35, 0, 0, 0, 45, 0, 0, 0, 55, 0, 0, 0, 65, 0, 0, 0, 75]
abbrev dktX0_made_1 : List UInt8 := dkwX0_made_1 ++ dktX0_made_2
def dkwX0_made_0 : List UInt8 := [26]
abbrev dktX0_made_0 : List UInt8 := dkwX0_made_0 ++ dktX0_made_1
theorem dksX0_made_0 : cX0_made.data.toList.drop 0 = dktX0_made_0 := by decide +kernel
theorem dksX0_made_1 : cX0_made.data.toList.drop 1 = dktX0_made_1 := dk_seg dksX0_made_0 1 rfl rfl
theorem dksX0_made_2 : cX0_made.data.toList.drop 36 = dktX0_made_2 := dk_seg dksX0_made_1 35 rfl rfl
theorem dksX0_made_3 : cX0_made.data.toList.drop 60 = dktX0_made_3 := dk_seg dksX0_made_2 24 rfl rfl
theorem dksX0_made_4 : cX0_made.data.toList.drop 82 = dktX0_made_4 := dk_seg dksX0_made_3 22 rfl rfl
theorem dX0_made_0 : decode cX0_made 0 = .ok (.iload_n 0, 1) := dk_26 (dk_at dksX0_made_0 0 rfl rfl)
theorem dX0_made_1 : decode cX0_made 1 = .ok (.tableswitch 85 0 4 #[35, 45, 55, 65, 75], 35) := by decide +kernel
theorem dX0_made_36 : decode cX0_made 36 = .ok (.new 7, 3) := dk_187 0 7 (dk_at dksX0_made_2 0 rfl rfl)
theorem dX0_made_39 : decode cX0_made 39 = .ok (.dup, 1) := dk_89 (dk_at dksX0_made_2 3 rfl rfl)
theorem dX0_made_40 : decode cX0_made 40 = .ok (.iload_n 1, 1) := dk_27 (dk_at dksX0_made_2 4 rfl rfl)
theorem dX0_made_41 : decode cX0_made 41 = .ok (.iload_n 2, 1) := dk_28 (dk_at dksX0_made_2 5 rfl rfl)
theorem dX0_made_42 : decode cX0_made 42 = .ok (.invokespecial 9, 3) := dk_183 0 9 (dk_at dksX0_made_2 6 rfl rfl)
theorem dX0_made_45 : decode cX0_made 45 = .ok (.areturn, 1) := dk_176 (dk_at dksX0_made_2 9 rfl rfl)
theorem dX0_made_46 : decode cX0_made 46 = .ok (.new 13, 3) := dk_187 0 13 (dk_at dksX0_made_2 10 rfl rfl)
theorem dX0_made_49 : decode cX0_made 49 = .ok (.dup, 1) := dk_89 (dk_at dksX0_made_2 13 rfl rfl)
theorem dX0_made_50 : decode cX0_made 50 = .ok (.iload_n 1, 1) := dk_27 (dk_at dksX0_made_2 14 rfl rfl)
theorem dX0_made_51 : decode cX0_made 51 = .ok (.iload_n 2, 1) := dk_28 (dk_at dksX0_made_2 15 rfl rfl)
theorem dX0_made_52 : decode cX0_made 52 = .ok (.invokespecial 15, 3) := dk_183 0 15 (dk_at dksX0_made_2 16 rfl rfl)
theorem dX0_made_55 : decode cX0_made 55 = .ok (.areturn, 1) := dk_176 (dk_at dksX0_made_2 19 rfl rfl)
theorem dX0_made_56 : decode cX0_made 56 = .ok (.new 16, 3) := dk_187 0 16 (dk_at dksX0_made_2 20 rfl rfl)
theorem dX0_made_59 : decode cX0_made 59 = .ok (.dup, 1) := dk_89 (dk_at dksX0_made_2 23 rfl rfl)
theorem dX0_made_60 : decode cX0_made 60 = .ok (.iload_n 1, 1) := dk_27 (dk_at dksX0_made_3 0 rfl rfl)
theorem dX0_made_61 : decode cX0_made 61 = .ok (.iload_n 2, 1) := dk_28 (dk_at dksX0_made_3 1 rfl rfl)
theorem dX0_made_62 : decode cX0_made 62 = .ok (.invokespecial 18, 3) := dk_183 0 18 (dk_at dksX0_made_3 2 rfl rfl)
theorem dX0_made_65 : decode cX0_made 65 = .ok (.areturn, 1) := dk_176 (dk_at dksX0_made_3 5 rfl rfl)
theorem dX0_made_66 : decode cX0_made 66 = .ok (.new 19, 3) := dk_187 0 19 (dk_at dksX0_made_3 6 rfl rfl)
theorem dX0_made_69 : decode cX0_made 69 = .ok (.dup, 1) := dk_89 (dk_at dksX0_made_3 9 rfl rfl)
theorem dX0_made_70 : decode cX0_made 70 = .ok (.iload_n 1, 1) := dk_27 (dk_at dksX0_made_3 10 rfl rfl)
theorem dX0_made_71 : decode cX0_made 71 = .ok (.iload_n 2, 1) := dk_28 (dk_at dksX0_made_3 11 rfl rfl)
theorem dX0_made_72 : decode cX0_made 72 = .ok (.invokespecial 21, 3) := dk_183 0 21 (dk_at dksX0_made_3 12 rfl rfl)
theorem dX0_made_75 : decode cX0_made 75 = .ok (.areturn, 1) := dk_176 (dk_at dksX0_made_3 15 rfl rfl)
theorem dX0_made_76 : decode cX0_made 76 = .ok (.new 22, 3) := dk_187 0 22 (dk_at dksX0_made_3 16 rfl rfl)
theorem dX0_made_79 : decode cX0_made 79 = .ok (.dup, 1) := dk_89 (dk_at dksX0_made_3 19 rfl rfl)
theorem dX0_made_80 : decode cX0_made 80 = .ok (.iload_n 1, 1) := dk_27 (dk_at dksX0_made_3 20 rfl rfl)
theorem dX0_made_81 : decode cX0_made 81 = .ok (.iload_n 2, 1) := dk_28 (dk_at dksX0_made_3 21 rfl rfl)
theorem dX0_made_82 : decode cX0_made 82 = .ok (.invokespecial 24, 3) := dk_183 0 24 (dk_at dksX0_made_4 0 rfl rfl)
theorem dX0_made_85 : decode cX0_made 85 = .ok (.areturn, 1) := dk_176 (dk_at dksX0_made_4 3 rfl rfl)
theorem dX0_made_86 : decode cX0_made 86 = .ok (.new 25, 3) := dk_187 0 25 (dk_at dksX0_made_4 4 rfl rfl)
theorem dX0_made_89 : decode cX0_made 89 = .ok (.dup, 1) := dk_89 (dk_at dksX0_made_4 7 rfl rfl)
theorem dX0_made_90 : decode cX0_made 90 = .ok (.iload_n 1, 1) := dk_27 (dk_at dksX0_made_4 8 rfl rfl)
theorem dX0_made_91 : decode cX0_made 91 = .ok (.iload_n 2, 1) := dk_28 (dk_at dksX0_made_4 9 rfl rfl)
theorem dX0_made_92 : decode cX0_made 92 = .ok (.invokespecial 27, 3) := dk_183 0 27 (dk_at dksX0_made_4 10 rfl rfl)
theorem dX0_made_95 : decode cX0_made 95 = .ok (.areturn, 1) := dk_176 (dk_at dksX0_made_4 13 rfl rfl)
abbrev cX0_likes : ByteArray := prog_1_method_27_code
def yX0_likes : MethodName := ⟨RX0, "likes", "(IIZ)I"⟩
def dkwX0_likes_3 : List UInt8 := [128, 167, 0, 18, 42, 180, 0, 36, 180, 0, 199, 27, 46, 4, 28, 120, 2, 130, 126, 79, 21, 4, 172]
abbrev dktX0_likes_3 : List UInt8 := dkwX0_likes_3 ++ []
def dkwX0_likes_2 : List UInt8 := [42, 180, 0, 36, 180, 0, 199, 27, 29, 153, 0, 19, 42, 180, 0, 36, 180, 0, 199, 27, 46, 4, 28, 120]
abbrev dktX0_likes_2 : List UInt8 := dkwX0_likes_2 ++ dktX0_likes_3
def dkwX0_likes_1 : List UInt8 := [172, 42, 180, 0, 36, 180, 0, 199, 27, 46, 28, 184, 0, 202, 153, 0, 7, 4, 167, 0, 4, 3, 54, 4]
abbrev dktX0_likes_1 : List UInt8 := dkwX0_likes_1 ++ dktX0_likes_2
def dkwX0_likes_0 : List UInt8 := [42, 180, 0, 36, 27, 182, 0, 157, 153, 0, 10, 28, 184, 0, 183, 154, 0, 10, 42, 16, 254, 182, 0, 105]
abbrev dktX0_likes_0 : List UInt8 := dkwX0_likes_0 ++ dktX0_likes_1
theorem dksX0_likes_0 : cX0_likes.data.toList.drop 0 = dktX0_likes_0 := by decide +kernel
theorem dksX0_likes_1 : cX0_likes.data.toList.drop 24 = dktX0_likes_1 := dk_seg dksX0_likes_0 24 rfl rfl
theorem dksX0_likes_2 : cX0_likes.data.toList.drop 48 = dktX0_likes_2 := dk_seg dksX0_likes_1 24 rfl rfl
theorem dksX0_likes_3 : cX0_likes.data.toList.drop 72 = dktX0_likes_3 := dk_seg dksX0_likes_2 24 rfl rfl
theorem dX0_likes_0 : decode cX0_likes 0 = .ok (.aload_n 0, 1) := dk_42 (dk_at dksX0_likes_0 0 rfl rfl)
theorem dX0_likes_1 : decode cX0_likes 1 = .ok (.getfield 36, 3) := dk_180 0 36 (dk_at dksX0_likes_0 1 rfl rfl)
theorem dX0_likes_4 : decode cX0_likes 4 = .ok (.iload_n 1, 1) := dk_27 (dk_at dksX0_likes_0 4 rfl rfl)
theorem dX0_likes_5 : decode cX0_likes 5 = .ok (.invokevirtual 157, 3) := dk_182 0 157 (dk_at dksX0_likes_0 5 rfl rfl)
theorem dX0_likes_8 : decode cX0_likes 8 = .ok (.ifCond .eq 10, 3) := dk_153 0 10 (dk_at dksX0_likes_0 8 rfl rfl)
theorem dX0_likes_11 : decode cX0_likes 11 = .ok (.iload_n 2, 1) := dk_28 (dk_at dksX0_likes_0 11 rfl rfl)
theorem dX0_likes_12 : decode cX0_likes 12 = .ok (.invokestatic 183, 3) := dk_184 0 183 (dk_at dksX0_likes_0 12 rfl rfl)
theorem dX0_likes_15 : decode cX0_likes 15 = .ok (.ifCond .ne 10, 3) := dk_154 0 10 (dk_at dksX0_likes_0 15 rfl rfl)
theorem dX0_likes_18 : decode cX0_likes 18 = .ok (.aload_n 0, 1) := dk_42 (dk_at dksX0_likes_0 18 rfl rfl)
theorem dX0_likes_19 : decode cX0_likes 19 = .ok (.bipush (-2), 2) := dk_16 254 (dk_at dksX0_likes_0 19 rfl rfl)
theorem dX0_likes_21 : decode cX0_likes 21 = .ok (.invokevirtual 105, 3) := dk_182 0 105 (dk_at dksX0_likes_0 21 rfl rfl)
theorem dX0_likes_24 : decode cX0_likes 24 = .ok (.ireturn, 1) := dk_172 (dk_at dksX0_likes_1 0 rfl rfl)
theorem dX0_likes_25 : decode cX0_likes 25 = .ok (.aload_n 0, 1) := dk_42 (dk_at dksX0_likes_1 1 rfl rfl)
theorem dX0_likes_26 : decode cX0_likes 26 = .ok (.getfield 36, 3) := dk_180 0 36 (dk_at dksX0_likes_1 2 rfl rfl)
theorem dX0_likes_29 : decode cX0_likes 29 = .ok (.getfield 199, 3) := dk_180 0 199 (dk_at dksX0_likes_1 5 rfl rfl)
theorem dX0_likes_32 : decode cX0_likes 32 = .ok (.iload_n 1, 1) := dk_27 (dk_at dksX0_likes_1 8 rfl rfl)
theorem dX0_likes_33 : decode cX0_likes 33 = .ok (.iaload, 1) := dk_46 (dk_at dksX0_likes_1 9 rfl rfl)
theorem dX0_likes_34 : decode cX0_likes 34 = .ok (.iload_n 2, 1) := dk_28 (dk_at dksX0_likes_1 10 rfl rfl)
theorem dX0_likes_35 : decode cX0_likes 35 = .ok (.invokestatic 202, 3) := dk_184 0 202 (dk_at dksX0_likes_1 11 rfl rfl)
theorem dX0_likes_38 : decode cX0_likes 38 = .ok (.ifCond .eq 7, 3) := dk_153 0 7 (dk_at dksX0_likes_1 14 rfl rfl)
theorem dX0_likes_41 : decode cX0_likes 41 = .ok (.iconst 1, 1) := dk_4 (dk_at dksX0_likes_1 17 rfl rfl)
theorem dX0_likes_42 : decode cX0_likes 42 = .ok (.goto 4, 3) := dk_167 0 4 (dk_at dksX0_likes_1 18 rfl rfl)
theorem dX0_likes_45 : decode cX0_likes 45 = .ok (.iconst 0, 1) := dk_3 (dk_at dksX0_likes_1 21 rfl rfl)
theorem dX0_likes_46 : decode cX0_likes 46 = .ok (.istore 4, 2) := dk_54 4 (dk_at dksX0_likes_1 22 rfl rfl)
theorem dX0_likes_48 : decode cX0_likes 48 = .ok (.aload_n 0, 1) := dk_42 (dk_at dksX0_likes_2 0 rfl rfl)
theorem dX0_likes_49 : decode cX0_likes 49 = .ok (.getfield 36, 3) := dk_180 0 36 (dk_at dksX0_likes_2 1 rfl rfl)
theorem dX0_likes_52 : decode cX0_likes 52 = .ok (.getfield 199, 3) := dk_180 0 199 (dk_at dksX0_likes_2 4 rfl rfl)
theorem dX0_likes_55 : decode cX0_likes 55 = .ok (.iload_n 1, 1) := dk_27 (dk_at dksX0_likes_2 7 rfl rfl)
theorem dX0_likes_56 : decode cX0_likes 56 = .ok (.iload_n 3, 1) := dk_29 (dk_at dksX0_likes_2 8 rfl rfl)
theorem dX0_likes_57 : decode cX0_likes 57 = .ok (.ifCond .eq 19, 3) := dk_153 0 19 (dk_at dksX0_likes_2 9 rfl rfl)
theorem dX0_likes_60 : decode cX0_likes 60 = .ok (.aload_n 0, 1) := dk_42 (dk_at dksX0_likes_2 12 rfl rfl)
theorem dX0_likes_61 : decode cX0_likes 61 = .ok (.getfield 36, 3) := dk_180 0 36 (dk_at dksX0_likes_2 13 rfl rfl)
theorem dX0_likes_64 : decode cX0_likes 64 = .ok (.getfield 199, 3) := dk_180 0 199 (dk_at dksX0_likes_2 16 rfl rfl)
theorem dX0_likes_67 : decode cX0_likes 67 = .ok (.iload_n 1, 1) := dk_27 (dk_at dksX0_likes_2 19 rfl rfl)
theorem dX0_likes_68 : decode cX0_likes 68 = .ok (.iaload, 1) := dk_46 (dk_at dksX0_likes_2 20 rfl rfl)
theorem dX0_likes_69 : decode cX0_likes 69 = .ok (.iconst 1, 1) := dk_4 (dk_at dksX0_likes_2 21 rfl rfl)
theorem dX0_likes_70 : decode cX0_likes 70 = .ok (.iload_n 2, 1) := dk_28 (dk_at dksX0_likes_2 22 rfl rfl)
theorem dX0_likes_71 : decode cX0_likes 71 = .ok (.ishl, 1) := dk_120 (dk_at dksX0_likes_2 23 rfl rfl)
theorem dX0_likes_72 : decode cX0_likes 72 = .ok (.ior, 1) := dk_128 (dk_at dksX0_likes_3 0 rfl rfl)
theorem dX0_likes_73 : decode cX0_likes 73 = .ok (.goto 18, 3) := dk_167 0 18 (dk_at dksX0_likes_3 1 rfl rfl)
theorem dX0_likes_76 : decode cX0_likes 76 = .ok (.aload_n 0, 1) := dk_42 (dk_at dksX0_likes_3 4 rfl rfl)
theorem dX0_likes_77 : decode cX0_likes 77 = .ok (.getfield 36, 3) := dk_180 0 36 (dk_at dksX0_likes_3 5 rfl rfl)
theorem dX0_likes_80 : decode cX0_likes 80 = .ok (.getfield 199, 3) := dk_180 0 199 (dk_at dksX0_likes_3 8 rfl rfl)
theorem dX0_likes_83 : decode cX0_likes 83 = .ok (.iload_n 1, 1) := dk_27 (dk_at dksX0_likes_3 11 rfl rfl)
theorem dX0_likes_84 : decode cX0_likes 84 = .ok (.iaload, 1) := dk_46 (dk_at dksX0_likes_3 12 rfl rfl)
theorem dX0_likes_85 : decode cX0_likes 85 = .ok (.iconst 1, 1) := dk_4 (dk_at dksX0_likes_3 13 rfl rfl)
theorem dX0_likes_86 : decode cX0_likes 86 = .ok (.iload_n 2, 1) := dk_28 (dk_at dksX0_likes_3 14 rfl rfl)
theorem dX0_likes_87 : decode cX0_likes 87 = .ok (.ishl, 1) := dk_120 (dk_at dksX0_likes_3 15 rfl rfl)
theorem dX0_likes_88 : decode cX0_likes 88 = .ok (.iconst (-1), 1) := dk_2 (dk_at dksX0_likes_3 16 rfl rfl)
theorem dX0_likes_89 : decode cX0_likes 89 = .ok (.ixor, 1) := dk_130 (dk_at dksX0_likes_3 17 rfl rfl)
theorem dX0_likes_90 : decode cX0_likes 90 = .ok (.iand, 1) := dk_126 (dk_at dksX0_likes_3 18 rfl rfl)
theorem dX0_likes_91 : decode cX0_likes 91 = .ok (.iastore, 1) := dk_79 (dk_at dksX0_likes_3 19 rfl rfl)
theorem dX0_likes_92 : decode cX0_likes 92 = .ok (.iload 4, 2) := dk_21 4 (dk_at dksX0_likes_3 20 rfl rfl)
theorem dX0_likes_94 : decode cX0_likes 94 = .ok (.ireturn, 1) := dk_172 (dk_at dksX0_likes_3 22 rfl rfl)
abbrev cX0_tell : ByteArray := prog_1_method_28_code
def yX0_tell : MethodName := ⟨RX0, "tell", "(III)I"⟩
def dkwX0_tell_5 : List UInt8 := [27, 46, 54, 6, 25, 5, 27, 29, 79, 21, 6, 172]
abbrev dktX0_tell_5 : List UInt8 := dkwX0_tell_5 ++ []
def dkwX0_tell_4 : List UInt8 := [160, 0, 13, 42, 180, 0, 36, 180, 0, 171, 167, 0, 10, 42, 180, 0, 36, 180, 0, 209, 58, 5, 25, 5]
abbrev dktX0_tell_4 : List UInt8 := dkwX0_tell_4 ++ dktX0_tell_5
def dkwX0_tell_3 : List UInt8 := [16, 254, 182, 0, 105, 172, 28, 154, 0, 13, 42, 180, 0, 36, 180, 0, 206, 167, 0, 25, 28, 4]
abbrev dktX0_tell_3 : List UInt8 := dkwX0_tell_3 ++ dktX0_tell_4
def dkwX0_tell_2 : List UInt8 := [167, 0, 4, 3, 54, 4, 42, 180, 0, 36, 27, 182, 0, 157, 153, 0, 8, 21, 4, 154, 0, 10, 42]
abbrev dktX0_tell_2 : List UInt8 := dkwX0_tell_2 ++ dktX0_tell_3
def dkwX0_tell_1 : List UInt8 := [184, 0, 3, 167, 0, 25, 28, 5, 160, 0, 19, 29, 2, 159, 0, 10, 29, 184, 0, 183, 153, 0, 7, 4]
abbrev dktX0_tell_1 : List UInt8 := dkwX0_tell_1 ++ dktX0_tell_2
def dkwX0_tell_0 : List UInt8 := [28, 154, 0, 13, 29, 3, 16, 12, 184, 0, 3, 167, 0, 40, 28, 4, 160, 0, 13, 29, 3, 16, 99]
abbrev dktX0_tell_0 : List UInt8 := dkwX0_tell_0 ++ dktX0_tell_1
theorem dksX0_tell_0 : cX0_tell.data.toList.drop 0 = dktX0_tell_0 := by decide +kernel
theorem dksX0_tell_1 : cX0_tell.data.toList.drop 23 = dktX0_tell_1 := dk_seg dksX0_tell_0 23 rfl rfl
theorem dksX0_tell_2 : cX0_tell.data.toList.drop 47 = dktX0_tell_2 := dk_seg dksX0_tell_1 24 rfl rfl
theorem dksX0_tell_3 : cX0_tell.data.toList.drop 70 = dktX0_tell_3 := dk_seg dksX0_tell_2 23 rfl rfl
theorem dksX0_tell_4 : cX0_tell.data.toList.drop 92 = dktX0_tell_4 := dk_seg dksX0_tell_3 22 rfl rfl
theorem dksX0_tell_5 : cX0_tell.data.toList.drop 116 = dktX0_tell_5 := dk_seg dksX0_tell_4 24 rfl rfl
theorem dX0_tell_0 : decode cX0_tell 0 = .ok (.iload_n 2, 1) := dk_28 (dk_at dksX0_tell_0 0 rfl rfl)
theorem dX0_tell_1 : decode cX0_tell 1 = .ok (.ifCond .ne 13, 3) := dk_154 0 13 (dk_at dksX0_tell_0 1 rfl rfl)
theorem dX0_tell_4 : decode cX0_tell 4 = .ok (.iload_n 3, 1) := dk_29 (dk_at dksX0_tell_0 4 rfl rfl)
theorem dX0_tell_5 : decode cX0_tell 5 = .ok (.iconst 0, 1) := dk_3 (dk_at dksX0_tell_0 5 rfl rfl)
theorem dX0_tell_6 : decode cX0_tell 6 = .ok (.bipush 12, 2) := dk_16 12 (dk_at dksX0_tell_0 6 rfl rfl)
theorem dX0_tell_8 : decode cX0_tell 8 = .ok (.invokestatic 3, 3) := dk_184 0 3 (dk_at dksX0_tell_0 8 rfl rfl)
theorem dX0_tell_11 : decode cX0_tell 11 = .ok (.goto 40, 3) := dk_167 0 40 (dk_at dksX0_tell_0 11 rfl rfl)
theorem dX0_tell_14 : decode cX0_tell 14 = .ok (.iload_n 2, 1) := dk_28 (dk_at dksX0_tell_0 14 rfl rfl)
theorem dX0_tell_15 : decode cX0_tell 15 = .ok (.iconst 1, 1) := dk_4 (dk_at dksX0_tell_0 15 rfl rfl)
theorem dX0_tell_16 : decode cX0_tell 16 = .ok (.if_icmp .ne 13, 3) := dk_160 0 13 (dk_at dksX0_tell_0 16 rfl rfl)
theorem dX0_tell_19 : decode cX0_tell 19 = .ok (.iload_n 3, 1) := dk_29 (dk_at dksX0_tell_0 19 rfl rfl)
theorem dX0_tell_20 : decode cX0_tell 20 = .ok (.iconst 0, 1) := dk_3 (dk_at dksX0_tell_0 20 rfl rfl)
theorem dX0_tell_21 : decode cX0_tell 21 = .ok (.bipush 99, 2) := dk_16 99 (dk_at dksX0_tell_0 21 rfl rfl)
theorem dX0_tell_23 : decode cX0_tell 23 = .ok (.invokestatic 3, 3) := dk_184 0 3 (dk_at dksX0_tell_1 0 rfl rfl)
theorem dX0_tell_26 : decode cX0_tell 26 = .ok (.goto 25, 3) := dk_167 0 25 (dk_at dksX0_tell_1 3 rfl rfl)
theorem dX0_tell_29 : decode cX0_tell 29 = .ok (.iload_n 2, 1) := dk_28 (dk_at dksX0_tell_1 6 rfl rfl)
theorem dX0_tell_30 : decode cX0_tell 30 = .ok (.iconst 2, 1) := dk_5 (dk_at dksX0_tell_1 7 rfl rfl)
theorem dX0_tell_31 : decode cX0_tell 31 = .ok (.if_icmp .ne 19, 3) := dk_160 0 19 (dk_at dksX0_tell_1 8 rfl rfl)
theorem dX0_tell_34 : decode cX0_tell 34 = .ok (.iload_n 3, 1) := dk_29 (dk_at dksX0_tell_1 11 rfl rfl)
theorem dX0_tell_35 : decode cX0_tell 35 = .ok (.iconst (-1), 1) := dk_2 (dk_at dksX0_tell_1 12 rfl rfl)
theorem dX0_tell_36 : decode cX0_tell 36 = .ok (.if_icmp .eq 10, 3) := dk_159 0 10 (dk_at dksX0_tell_1 13 rfl rfl)
theorem dX0_tell_39 : decode cX0_tell 39 = .ok (.iload_n 3, 1) := dk_29 (dk_at dksX0_tell_1 16 rfl rfl)
theorem dX0_tell_40 : decode cX0_tell 40 = .ok (.invokestatic 183, 3) := dk_184 0 183 (dk_at dksX0_tell_1 17 rfl rfl)
theorem dX0_tell_43 : decode cX0_tell 43 = .ok (.ifCond .eq 7, 3) := dk_153 0 7 (dk_at dksX0_tell_1 20 rfl rfl)
theorem dX0_tell_46 : decode cX0_tell 46 = .ok (.iconst 1, 1) := dk_4 (dk_at dksX0_tell_1 23 rfl rfl)
theorem dX0_tell_47 : decode cX0_tell 47 = .ok (.goto 4, 3) := dk_167 0 4 (dk_at dksX0_tell_2 0 rfl rfl)
theorem dX0_tell_50 : decode cX0_tell 50 = .ok (.iconst 0, 1) := dk_3 (dk_at dksX0_tell_2 3 rfl rfl)
theorem dX0_tell_51 : decode cX0_tell 51 = .ok (.istore 4, 2) := dk_54 4 (dk_at dksX0_tell_2 4 rfl rfl)
theorem dX0_tell_53 : decode cX0_tell 53 = .ok (.aload_n 0, 1) := dk_42 (dk_at dksX0_tell_2 6 rfl rfl)
theorem dX0_tell_54 : decode cX0_tell 54 = .ok (.getfield 36, 3) := dk_180 0 36 (dk_at dksX0_tell_2 7 rfl rfl)
theorem dX0_tell_57 : decode cX0_tell 57 = .ok (.iload_n 1, 1) := dk_27 (dk_at dksX0_tell_2 10 rfl rfl)
theorem dX0_tell_58 : decode cX0_tell 58 = .ok (.invokevirtual 157, 3) := dk_182 0 157 (dk_at dksX0_tell_2 11 rfl rfl)
theorem dX0_tell_61 : decode cX0_tell 61 = .ok (.ifCond .eq 8, 3) := dk_153 0 8 (dk_at dksX0_tell_2 14 rfl rfl)
theorem dX0_tell_64 : decode cX0_tell 64 = .ok (.iload 4, 2) := dk_21 4 (dk_at dksX0_tell_2 17 rfl rfl)
theorem dX0_tell_66 : decode cX0_tell 66 = .ok (.ifCond .ne 10, 3) := dk_154 0 10 (dk_at dksX0_tell_2 19 rfl rfl)
theorem dX0_tell_69 : decode cX0_tell 69 = .ok (.aload_n 0, 1) := dk_42 (dk_at dksX0_tell_2 22 rfl rfl)
theorem dX0_tell_70 : decode cX0_tell 70 = .ok (.bipush (-2), 2) := dk_16 254 (dk_at dksX0_tell_3 0 rfl rfl)
theorem dX0_tell_72 : decode cX0_tell 72 = .ok (.invokevirtual 105, 3) := dk_182 0 105 (dk_at dksX0_tell_3 2 rfl rfl)
theorem dX0_tell_75 : decode cX0_tell 75 = .ok (.ireturn, 1) := dk_172 (dk_at dksX0_tell_3 5 rfl rfl)
theorem dX0_tell_76 : decode cX0_tell 76 = .ok (.iload_n 2, 1) := dk_28 (dk_at dksX0_tell_3 6 rfl rfl)
theorem dX0_tell_77 : decode cX0_tell 77 = .ok (.ifCond .ne 13, 3) := dk_154 0 13 (dk_at dksX0_tell_3 7 rfl rfl)
theorem dX0_tell_80 : decode cX0_tell 80 = .ok (.aload_n 0, 1) := dk_42 (dk_at dksX0_tell_3 10 rfl rfl)
theorem dX0_tell_81 : decode cX0_tell 81 = .ok (.getfield 36, 3) := dk_180 0 36 (dk_at dksX0_tell_3 11 rfl rfl)
theorem dX0_tell_84 : decode cX0_tell 84 = .ok (.getfield 206, 3) := dk_180 0 206 (dk_at dksX0_tell_3 14 rfl rfl)
theorem dX0_tell_87 : decode cX0_tell 87 = .ok (.goto 25, 3) := dk_167 0 25 (dk_at dksX0_tell_3 17 rfl rfl)
theorem dX0_tell_90 : decode cX0_tell 90 = .ok (.iload_n 2, 1) := dk_28 (dk_at dksX0_tell_3 20 rfl rfl)
theorem dX0_tell_91 : decode cX0_tell 91 = .ok (.iconst 1, 1) := dk_4 (dk_at dksX0_tell_3 21 rfl rfl)
theorem dX0_tell_92 : decode cX0_tell 92 = .ok (.if_icmp .ne 13, 3) := dk_160 0 13 (dk_at dksX0_tell_4 0 rfl rfl)
theorem dX0_tell_95 : decode cX0_tell 95 = .ok (.aload_n 0, 1) := dk_42 (dk_at dksX0_tell_4 3 rfl rfl)
theorem dX0_tell_96 : decode cX0_tell 96 = .ok (.getfield 36, 3) := dk_180 0 36 (dk_at dksX0_tell_4 4 rfl rfl)
theorem dX0_tell_99 : decode cX0_tell 99 = .ok (.getfield 171, 3) := dk_180 0 171 (dk_at dksX0_tell_4 7 rfl rfl)
theorem dX0_tell_102 : decode cX0_tell 102 = .ok (.goto 10, 3) := dk_167 0 10 (dk_at dksX0_tell_4 10 rfl rfl)
theorem dX0_tell_105 : decode cX0_tell 105 = .ok (.aload_n 0, 1) := dk_42 (dk_at dksX0_tell_4 13 rfl rfl)
theorem dX0_tell_106 : decode cX0_tell 106 = .ok (.getfield 36, 3) := dk_180 0 36 (dk_at dksX0_tell_4 14 rfl rfl)
theorem dX0_tell_109 : decode cX0_tell 109 = .ok (.getfield 209, 3) := dk_180 0 209 (dk_at dksX0_tell_4 17 rfl rfl)
theorem dX0_tell_112 : decode cX0_tell 112 = .ok (.astore 5, 2) := dk_58 5 (dk_at dksX0_tell_4 20 rfl rfl)
theorem dX0_tell_114 : decode cX0_tell 114 = .ok (.aload 5, 2) := dk_25 5 (dk_at dksX0_tell_4 22 rfl rfl)
theorem dX0_tell_116 : decode cX0_tell 116 = .ok (.iload_n 1, 1) := dk_27 (dk_at dksX0_tell_5 0 rfl rfl)
theorem dX0_tell_117 : decode cX0_tell 117 = .ok (.iaload, 1) := dk_46 (dk_at dksX0_tell_5 1 rfl rfl)
theorem dX0_tell_118 : decode cX0_tell 118 = .ok (.istore 6, 2) := dk_54 6 (dk_at dksX0_tell_5 2 rfl rfl)
theorem dX0_tell_120 : decode cX0_tell 120 = .ok (.aload 5, 2) := dk_25 5 (dk_at dksX0_tell_5 4 rfl rfl)
theorem dX0_tell_122 : decode cX0_tell 122 = .ok (.iload_n 1, 1) := dk_27 (dk_at dksX0_tell_5 6 rfl rfl)
theorem dX0_tell_123 : decode cX0_tell 123 = .ok (.iload_n 3, 1) := dk_29 (dk_at dksX0_tell_5 7 rfl rfl)
theorem dX0_tell_124 : decode cX0_tell 124 = .ok (.iastore, 1) := dk_79 (dk_at dksX0_tell_5 8 rfl rfl)
theorem dX0_tell_125 : decode cX0_tell 125 = .ok (.iload 6, 2) := dk_21 6 (dk_at dksX0_tell_5 9 rfl rfl)
theorem dX0_tell_127 : decode cX0_tell 127 = .ok (.ireturn, 1) := dk_172 (dk_at dksX0_tell_5 11 rfl rfl)
abbrev cX0_feed : ByteArray := prog_1_method_29_code
def yX0_feed : MethodName := ⟨RX0, "feed", "(I)I"⟩
def dkwX0_feed_2 : List UInt8 := [89, 180, 0, 212, 4, 96, 181, 0, 212, 42, 180, 0, 212, 172]
abbrev dktX0_feed_2 : List UInt8 := dkwX0_feed_2 ++ []
def dkwX0_feed_1 : List UInt8 := [17, 0, 250, 160, 0, 10, 42, 16, 250, 182, 0, 105, 172, 42, 180, 0, 73, 42, 180, 0, 212, 27, 79, 42]
abbrev dktX0_feed_1 : List UInt8 := dkwX0_feed_1 ++ dktX0_feed_2
def dkwX0_feed_0 : List UInt8 := [27, 3, 17, 0, 255, 184, 0, 3, 154, 0, 10, 42, 16, 254, 182, 0, 105, 172, 42, 180, 0, 212]
abbrev dktX0_feed_0 : List UInt8 := dkwX0_feed_0 ++ dktX0_feed_1
theorem dksX0_feed_0 : cX0_feed.data.toList.drop 0 = dktX0_feed_0 := by decide +kernel
theorem dksX0_feed_1 : cX0_feed.data.toList.drop 22 = dktX0_feed_1 := dk_seg dksX0_feed_0 22 rfl rfl
theorem dksX0_feed_2 : cX0_feed.data.toList.drop 46 = dktX0_feed_2 := dk_seg dksX0_feed_1 24 rfl rfl
theorem dX0_feed_0 : decode cX0_feed 0 = .ok (.iload_n 1, 1) := dk_27 (dk_at dksX0_feed_0 0 rfl rfl)
theorem dX0_feed_1 : decode cX0_feed 1 = .ok (.iconst 0, 1) := dk_3 (dk_at dksX0_feed_0 1 rfl rfl)
theorem dX0_feed_2 : decode cX0_feed 2 = .ok (.sipush 255, 3) := dk_17 0 255 (dk_at dksX0_feed_0 2 rfl rfl)
theorem dX0_feed_5 : decode cX0_feed 5 = .ok (.invokestatic 3, 3) := dk_184 0 3 (dk_at dksX0_feed_0 5 rfl rfl)
theorem dX0_feed_8 : decode cX0_feed 8 = .ok (.ifCond .ne 10, 3) := dk_154 0 10 (dk_at dksX0_feed_0 8 rfl rfl)
theorem dX0_feed_11 : decode cX0_feed 11 = .ok (.aload_n 0, 1) := dk_42 (dk_at dksX0_feed_0 11 rfl rfl)
theorem dX0_feed_12 : decode cX0_feed 12 = .ok (.bipush (-2), 2) := dk_16 254 (dk_at dksX0_feed_0 12 rfl rfl)
theorem dX0_feed_14 : decode cX0_feed 14 = .ok (.invokevirtual 105, 3) := dk_182 0 105 (dk_at dksX0_feed_0 14 rfl rfl)
theorem dX0_feed_17 : decode cX0_feed 17 = .ok (.ireturn, 1) := dk_172 (dk_at dksX0_feed_0 17 rfl rfl)
theorem dX0_feed_18 : decode cX0_feed 18 = .ok (.aload_n 0, 1) := dk_42 (dk_at dksX0_feed_0 18 rfl rfl)
theorem dX0_feed_19 : decode cX0_feed 19 = .ok (.getfield 212, 3) := dk_180 0 212 (dk_at dksX0_feed_0 19 rfl rfl)
theorem dX0_feed_22 : decode cX0_feed 22 = .ok (.sipush 250, 3) := dk_17 0 250 (dk_at dksX0_feed_1 0 rfl rfl)
theorem dX0_feed_25 : decode cX0_feed 25 = .ok (.if_icmp .ne 10, 3) := dk_160 0 10 (dk_at dksX0_feed_1 3 rfl rfl)
theorem dX0_feed_28 : decode cX0_feed 28 = .ok (.aload_n 0, 1) := dk_42 (dk_at dksX0_feed_1 6 rfl rfl)
theorem dX0_feed_29 : decode cX0_feed 29 = .ok (.bipush (-6), 2) := dk_16 250 (dk_at dksX0_feed_1 7 rfl rfl)
theorem dX0_feed_31 : decode cX0_feed 31 = .ok (.invokevirtual 105, 3) := dk_182 0 105 (dk_at dksX0_feed_1 9 rfl rfl)
theorem dX0_feed_34 : decode cX0_feed 34 = .ok (.ireturn, 1) := dk_172 (dk_at dksX0_feed_1 12 rfl rfl)
theorem dX0_feed_35 : decode cX0_feed 35 = .ok (.aload_n 0, 1) := dk_42 (dk_at dksX0_feed_1 13 rfl rfl)
theorem dX0_feed_36 : decode cX0_feed 36 = .ok (.getfield 73, 3) := dk_180 0 73 (dk_at dksX0_feed_1 14 rfl rfl)
theorem dX0_feed_39 : decode cX0_feed 39 = .ok (.aload_n 0, 1) := dk_42 (dk_at dksX0_feed_1 17 rfl rfl)
theorem dX0_feed_40 : decode cX0_feed 40 = .ok (.getfield 212, 3) := dk_180 0 212 (dk_at dksX0_feed_1 18 rfl rfl)
theorem dX0_feed_43 : decode cX0_feed 43 = .ok (.iload_n 1, 1) := dk_27 (dk_at dksX0_feed_1 21 rfl rfl)
theorem dX0_feed_44 : decode cX0_feed 44 = .ok (.iastore, 1) := dk_79 (dk_at dksX0_feed_1 22 rfl rfl)
theorem dX0_feed_45 : decode cX0_feed 45 = .ok (.aload_n 0, 1) := dk_42 (dk_at dksX0_feed_1 23 rfl rfl)
theorem dX0_feed_46 : decode cX0_feed 46 = .ok (.dup, 1) := dk_89 (dk_at dksX0_feed_2 0 rfl rfl)
theorem dX0_feed_47 : decode cX0_feed 47 = .ok (.getfield 212, 3) := dk_180 0 212 (dk_at dksX0_feed_2 1 rfl rfl)
theorem dX0_feed_50 : decode cX0_feed 50 = .ok (.iconst 1, 1) := dk_4 (dk_at dksX0_feed_2 4 rfl rfl)
theorem dX0_feed_51 : decode cX0_feed 51 = .ok (.iadd, 1) := dk_96 (dk_at dksX0_feed_2 5 rfl rfl)
theorem dX0_feed_52 : decode cX0_feed 52 = .ok (.putfield 212, 3) := dk_181 0 212 (dk_at dksX0_feed_2 6 rfl rfl)
theorem dX0_feed_55 : decode cX0_feed 55 = .ok (.aload_n 0, 1) := dk_42 (dk_at dksX0_feed_2 9 rfl rfl)
theorem dX0_feed_56 : decode cX0_feed 56 = .ok (.getfield 212, 3) := dk_180 0 212 (dk_at dksX0_feed_2 10 rfl rfl)
theorem dX0_feed_59 : decode cX0_feed 59 = .ok (.ireturn, 1) := dk_172 (dk_at dksX0_feed_2 13 rfl rfl)
abbrev cX0_wipe : ByteArray := prog_1_method_30_code
def yX0_wipe : MethodName := ⟨RX0, "wipe", "()I"⟩
def dkwX0_wipe_0 : List UInt8 := [42, 180, 0, 212, 60, 42, 3, 181, 0, 212, 27, 172]
abbrev dktX0_wipe_0 : List UInt8 := dkwX0_wipe_0 ++ []
theorem dksX0_wipe_0 : cX0_wipe.data.toList.drop 0 = dktX0_wipe_0 := by decide +kernel
theorem dX0_wipe_0 : decode cX0_wipe 0 = .ok (.aload_n 0, 1) := dk_42 (dk_at dksX0_wipe_0 0 rfl rfl)
theorem dX0_wipe_1 : decode cX0_wipe 1 = .ok (.getfield 212, 3) := dk_180 0 212 (dk_at dksX0_wipe_0 1 rfl rfl)
theorem dX0_wipe_4 : decode cX0_wipe 4 = .ok (.istore_n 1, 1) := dk_60 (dk_at dksX0_wipe_0 4 rfl rfl)
theorem dX0_wipe_5 : decode cX0_wipe 5 = .ok (.aload_n 0, 1) := dk_42 (dk_at dksX0_wipe_0 5 rfl rfl)
theorem dX0_wipe_6 : decode cX0_wipe 6 = .ok (.iconst 0, 1) := dk_3 (dk_at dksX0_wipe_0 6 rfl rfl)
theorem dX0_wipe_7 : decode cX0_wipe 7 = .ok (.putfield 212, 3) := dk_181 0 212 (dk_at dksX0_wipe_0 7 rfl rfl)
theorem dX0_wipe_10 : decode cX0_wipe 10 = .ok (.iload_n 1, 1) := dk_27 (dk_at dksX0_wipe_0 10 rfl rfl)
theorem dX0_wipe_11 : decode cX0_wipe 11 = .ok (.ireturn, 1) := dk_172 (dk_at dksX0_wipe_0 11 rfl rfl)
abbrev cX0_window : ByteArray := prog_1_method_31_code
def yX0_window : MethodName := ⟨RX0, "window", "()I"⟩
def dkwX0_window_3 : List UInt8 := [3, 181, 0, 212, 25, 4, 191]
abbrev dktX0_window_3 : List UInt8 := dkwX0_window_3 ++ []
def dkwX0_window_2 : List UInt8 := [16, 254, 182, 0, 105, 87, 16, 236, 43, 180, 0, 235, 100, 61, 42, 3, 181, 0, 212, 28, 172, 58, 4, 42]
abbrev dktX0_window_2 : List UInt8 := dkwX0_window_2 ++ dktX0_window_3
def dkwX0_window_1 : List UInt8 := [182, 0, 224, 61, 42, 43, 180, 0, 227, 182, 0, 230, 28, 62, 42, 3, 181, 0, 212, 29, 172, 76, 42]
abbrev dktX0_window_1 : List UInt8 := dkwX0_window_1 ++ dktX0_window_2
def dkwX0_window_0 : List UInt8 := [187, 0, 215, 89, 42, 180, 0, 73, 42, 180, 0, 212, 42, 180, 0, 36, 182, 0, 217, 183, 0, 221, 76, 43]
abbrev dktX0_window_0 : List UInt8 := dkwX0_window_0 ++ dktX0_window_1
theorem dksX0_window_0 : cX0_window.data.toList.drop 0 = dktX0_window_0 := by decide +kernel
theorem dksX0_window_1 : cX0_window.data.toList.drop 24 = dktX0_window_1 := dk_seg dksX0_window_0 24 rfl rfl
theorem dksX0_window_2 : cX0_window.data.toList.drop 47 = dktX0_window_2 := dk_seg dksX0_window_1 23 rfl rfl
theorem dksX0_window_3 : cX0_window.data.toList.drop 71 = dktX0_window_3 := dk_seg dksX0_window_2 24 rfl rfl
theorem dX0_window_0 : decode cX0_window 0 = .ok (.new 215, 3) := dk_187 0 215 (dk_at dksX0_window_0 0 rfl rfl)
theorem dX0_window_3 : decode cX0_window 3 = .ok (.dup, 1) := dk_89 (dk_at dksX0_window_0 3 rfl rfl)
theorem dX0_window_4 : decode cX0_window 4 = .ok (.aload_n 0, 1) := dk_42 (dk_at dksX0_window_0 4 rfl rfl)
theorem dX0_window_5 : decode cX0_window 5 = .ok (.getfield 73, 3) := dk_180 0 73 (dk_at dksX0_window_0 5 rfl rfl)
theorem dX0_window_8 : decode cX0_window 8 = .ok (.aload_n 0, 1) := dk_42 (dk_at dksX0_window_0 8 rfl rfl)
theorem dX0_window_9 : decode cX0_window 9 = .ok (.getfield 212, 3) := dk_180 0 212 (dk_at dksX0_window_0 9 rfl rfl)
theorem dX0_window_12 : decode cX0_window 12 = .ok (.aload_n 0, 1) := dk_42 (dk_at dksX0_window_0 12 rfl rfl)
theorem dX0_window_13 : decode cX0_window 13 = .ok (.getfield 36, 3) := dk_180 0 36 (dk_at dksX0_window_0 13 rfl rfl)
theorem dX0_window_16 : decode cX0_window 16 = .ok (.invokevirtual 217, 3) := dk_182 0 217 (dk_at dksX0_window_0 16 rfl rfl)
theorem dX0_window_19 : decode cX0_window 19 = .ok (.invokespecial 221, 3) := dk_183 0 221 (dk_at dksX0_window_0 19 rfl rfl)
theorem dX0_window_22 : decode cX0_window 22 = .ok (.astore_n 1, 1) := dk_76 (dk_at dksX0_window_0 22 rfl rfl)
theorem dX0_window_23 : decode cX0_window 23 = .ok (.aload_n 1, 1) := dk_43 (dk_at dksX0_window_0 23 rfl rfl)
theorem dX0_window_24 : decode cX0_window 24 = .ok (.invokevirtual 224, 3) := dk_182 0 224 (dk_at dksX0_window_1 0 rfl rfl)
theorem dX0_window_27 : decode cX0_window 27 = .ok (.istore_n 2, 1) := dk_61 (dk_at dksX0_window_1 3 rfl rfl)
theorem dX0_window_28 : decode cX0_window 28 = .ok (.aload_n 0, 1) := dk_42 (dk_at dksX0_window_1 4 rfl rfl)
theorem dX0_window_29 : decode cX0_window 29 = .ok (.aload_n 1, 1) := dk_43 (dk_at dksX0_window_1 5 rfl rfl)
theorem dX0_window_30 : decode cX0_window 30 = .ok (.getfield 227, 3) := dk_180 0 227 (dk_at dksX0_window_1 6 rfl rfl)
theorem dX0_window_33 : decode cX0_window 33 = .ok (.invokevirtual 230, 3) := dk_182 0 230 (dk_at dksX0_window_1 9 rfl rfl)
theorem dX0_window_36 : decode cX0_window 36 = .ok (.iload_n 2, 1) := dk_28 (dk_at dksX0_window_1 12 rfl rfl)
theorem dX0_window_37 : decode cX0_window 37 = .ok (.istore_n 3, 1) := dk_62 (dk_at dksX0_window_1 13 rfl rfl)
theorem dX0_window_38 : decode cX0_window 38 = .ok (.aload_n 0, 1) := dk_42 (dk_at dksX0_window_1 14 rfl rfl)
theorem dX0_window_39 : decode cX0_window 39 = .ok (.iconst 0, 1) := dk_3 (dk_at dksX0_window_1 15 rfl rfl)
theorem dX0_window_40 : decode cX0_window 40 = .ok (.putfield 212, 3) := dk_181 0 212 (dk_at dksX0_window_1 16 rfl rfl)
theorem dX0_window_43 : decode cX0_window 43 = .ok (.iload_n 3, 1) := dk_29 (dk_at dksX0_window_1 19 rfl rfl)
theorem dX0_window_44 : decode cX0_window 44 = .ok (.ireturn, 1) := dk_172 (dk_at dksX0_window_1 20 rfl rfl)
theorem dX0_window_45 : decode cX0_window 45 = .ok (.astore_n 1, 1) := dk_76 (dk_at dksX0_window_1 21 rfl rfl)
theorem dX0_window_46 : decode cX0_window 46 = .ok (.aload_n 0, 1) := dk_42 (dk_at dksX0_window_1 22 rfl rfl)
theorem dX0_window_47 : decode cX0_window 47 = .ok (.bipush (-2), 2) := dk_16 254 (dk_at dksX0_window_2 0 rfl rfl)
theorem dX0_window_49 : decode cX0_window 49 = .ok (.invokevirtual 105, 3) := dk_182 0 105 (dk_at dksX0_window_2 2 rfl rfl)
theorem dX0_window_52 : decode cX0_window 52 = .ok (.pop, 1) := dk_87 (dk_at dksX0_window_2 5 rfl rfl)
theorem dX0_window_53 : decode cX0_window 53 = .ok (.bipush (-20), 2) := dk_16 236 (dk_at dksX0_window_2 6 rfl rfl)
theorem dX0_window_55 : decode cX0_window 55 = .ok (.aload_n 1, 1) := dk_43 (dk_at dksX0_window_2 8 rfl rfl)
theorem dX0_window_56 : decode cX0_window 56 = .ok (.getfield 235, 3) := dk_180 0 235 (dk_at dksX0_window_2 9 rfl rfl)
theorem dX0_window_59 : decode cX0_window 59 = .ok (.isub, 1) := dk_100 (dk_at dksX0_window_2 12 rfl rfl)
theorem dX0_window_60 : decode cX0_window 60 = .ok (.istore_n 2, 1) := dk_61 (dk_at dksX0_window_2 13 rfl rfl)
theorem dX0_window_61 : decode cX0_window 61 = .ok (.aload_n 0, 1) := dk_42 (dk_at dksX0_window_2 14 rfl rfl)
theorem dX0_window_62 : decode cX0_window 62 = .ok (.iconst 0, 1) := dk_3 (dk_at dksX0_window_2 15 rfl rfl)
theorem dX0_window_63 : decode cX0_window 63 = .ok (.putfield 212, 3) := dk_181 0 212 (dk_at dksX0_window_2 16 rfl rfl)
theorem dX0_window_66 : decode cX0_window 66 = .ok (.iload_n 2, 1) := dk_28 (dk_at dksX0_window_2 19 rfl rfl)
theorem dX0_window_67 : decode cX0_window 67 = .ok (.ireturn, 1) := dk_172 (dk_at dksX0_window_2 20 rfl rfl)
theorem dX0_window_68 : decode cX0_window 68 = .ok (.astore 4, 2) := dk_58 4 (dk_at dksX0_window_2 21 rfl rfl)
theorem dX0_window_70 : decode cX0_window 70 = .ok (.aload_n 0, 1) := dk_42 (dk_at dksX0_window_2 23 rfl rfl)
theorem dX0_window_71 : decode cX0_window 71 = .ok (.iconst 0, 1) := dk_3 (dk_at dksX0_window_3 0 rfl rfl)
theorem dX0_window_72 : decode cX0_window 72 = .ok (.putfield 212, 3) := dk_181 0 212 (dk_at dksX0_window_3 1 rfl rfl)
theorem dX0_window_75 : decode cX0_window 75 = .ok (.aload 4, 2) := dk_25 4 (dk_at dksX0_window_3 4 rfl rfl)
theorem dX0_window_77 : decode cX0_window 77 = .ok (.athrow, 1) := dk_191 (dk_at dksX0_window_3 6 rfl rfl)
abbrev cX0_becomes : ByteArray := prog_1_method_24_code
def yX0_becomes : MethodName := ⟨RX0, "becomes", "(LSeenInOrderOfAge$Window;)V"⟩
def dkwX0_becomes_3 : List UInt8 := [50, 167, 0, 4, 1, 181, 0, 113, 132, 2, 1, 167, 255, 183, 177]
abbrev dktX0_becomes_3 : List UInt8 := dkwX0_becomes_3 ++ []
def dkwX0_becomes_2 : List UInt8 := [180, 0, 69, 28, 50, 42, 180, 0, 36, 29, 182, 0, 157, 153, 0, 15, 42, 180, 0, 36, 180, 0, 160, 29]
abbrev dktX0_becomes_2 : List UInt8 := dkwX0_becomes_2 ++ dktX0_becomes_3
def dkwX0_becomes_1 : List UInt8 := [193, 0, 7, 153, 0, 52, 42, 180, 0, 69, 28, 50, 180, 0, 113, 192, 0, 7, 180, 0, 154, 62, 42]
abbrev dktX0_becomes_1 : List UInt8 := dkwX0_becomes_1 ++ dktX0_becomes_2
def dkwX0_becomes_0 : List UInt8 := [42, 43, 181, 0, 36, 3, 61, 28, 16, 8, 162, 0, 73, 42, 180, 0, 69, 28, 50, 180, 0, 113]
abbrev dktX0_becomes_0 : List UInt8 := dkwX0_becomes_0 ++ dktX0_becomes_1
theorem dksX0_becomes_0 : cX0_becomes.data.toList.drop 0 = dktX0_becomes_0 := by decide +kernel
theorem dksX0_becomes_1 : cX0_becomes.data.toList.drop 22 = dktX0_becomes_1 := dk_seg dksX0_becomes_0 22 rfl rfl
theorem dksX0_becomes_2 : cX0_becomes.data.toList.drop 45 = dktX0_becomes_2 := dk_seg dksX0_becomes_1 23 rfl rfl
theorem dksX0_becomes_3 : cX0_becomes.data.toList.drop 69 = dktX0_becomes_3 := dk_seg dksX0_becomes_2 24 rfl rfl
theorem dX0_becomes_0 : decode cX0_becomes 0 = .ok (.aload_n 0, 1) := dk_42 (dk_at dksX0_becomes_0 0 rfl rfl)
theorem dX0_becomes_1 : decode cX0_becomes 1 = .ok (.aload_n 1, 1) := dk_43 (dk_at dksX0_becomes_0 1 rfl rfl)
theorem dX0_becomes_2 : decode cX0_becomes 2 = .ok (.putfield 36, 3) := dk_181 0 36 (dk_at dksX0_becomes_0 2 rfl rfl)
theorem dX0_becomes_5 : decode cX0_becomes 5 = .ok (.iconst 0, 1) := dk_3 (dk_at dksX0_becomes_0 5 rfl rfl)
theorem dX0_becomes_6 : decode cX0_becomes 6 = .ok (.istore_n 2, 1) := dk_61 (dk_at dksX0_becomes_0 6 rfl rfl)
theorem dX0_becomes_7 : decode cX0_becomes 7 = .ok (.iload_n 2, 1) := dk_28 (dk_at dksX0_becomes_0 7 rfl rfl)
theorem dX0_becomes_8 : decode cX0_becomes 8 = .ok (.bipush 8, 2) := dk_16 8 (dk_at dksX0_becomes_0 8 rfl rfl)
theorem dX0_becomes_10 : decode cX0_becomes 10 = .ok (.if_icmp .ge 73, 3) := dk_162 0 73 (dk_at dksX0_becomes_0 10 rfl rfl)
theorem dX0_becomes_13 : decode cX0_becomes 13 = .ok (.aload_n 0, 1) := dk_42 (dk_at dksX0_becomes_0 13 rfl rfl)
theorem dX0_becomes_14 : decode cX0_becomes 14 = .ok (.getfield 69, 3) := dk_180 0 69 (dk_at dksX0_becomes_0 14 rfl rfl)
theorem dX0_becomes_17 : decode cX0_becomes 17 = .ok (.iload_n 2, 1) := dk_28 (dk_at dksX0_becomes_0 17 rfl rfl)
theorem dX0_becomes_18 : decode cX0_becomes 18 = .ok (.aaload, 1) := dk_50 (dk_at dksX0_becomes_0 18 rfl rfl)
theorem dX0_becomes_19 : decode cX0_becomes 19 = .ok (.getfield 113, 3) := dk_180 0 113 (dk_at dksX0_becomes_0 19 rfl rfl)
theorem dX0_becomes_22 : decode cX0_becomes 22 = .ok (.instanceof 7, 3) := dk_193 0 7 (dk_at dksX0_becomes_1 0 rfl rfl)
theorem dX0_becomes_25 : decode cX0_becomes 25 = .ok (.ifCond .eq 52, 3) := dk_153 0 52 (dk_at dksX0_becomes_1 3 rfl rfl)
theorem dX0_becomes_28 : decode cX0_becomes 28 = .ok (.aload_n 0, 1) := dk_42 (dk_at dksX0_becomes_1 6 rfl rfl)
theorem dX0_becomes_29 : decode cX0_becomes 29 = .ok (.getfield 69, 3) := dk_180 0 69 (dk_at dksX0_becomes_1 7 rfl rfl)
theorem dX0_becomes_32 : decode cX0_becomes 32 = .ok (.iload_n 2, 1) := dk_28 (dk_at dksX0_becomes_1 10 rfl rfl)
theorem dX0_becomes_33 : decode cX0_becomes 33 = .ok (.aaload, 1) := dk_50 (dk_at dksX0_becomes_1 11 rfl rfl)
theorem dX0_becomes_34 : decode cX0_becomes 34 = .ok (.getfield 113, 3) := dk_180 0 113 (dk_at dksX0_becomes_1 12 rfl rfl)
theorem dX0_becomes_37 : decode cX0_becomes 37 = .ok (.checkcast 7, 3) := dk_192 0 7 (dk_at dksX0_becomes_1 15 rfl rfl)
theorem dX0_becomes_40 : decode cX0_becomes 40 = .ok (.getfield 154, 3) := dk_180 0 154 (dk_at dksX0_becomes_1 18 rfl rfl)
theorem dX0_becomes_43 : decode cX0_becomes 43 = .ok (.istore_n 3, 1) := dk_62 (dk_at dksX0_becomes_1 21 rfl rfl)
theorem dX0_becomes_44 : decode cX0_becomes 44 = .ok (.aload_n 0, 1) := dk_42 (dk_at dksX0_becomes_1 22 rfl rfl)
theorem dX0_becomes_45 : decode cX0_becomes 45 = .ok (.getfield 69, 3) := dk_180 0 69 (dk_at dksX0_becomes_2 0 rfl rfl)
theorem dX0_becomes_48 : decode cX0_becomes 48 = .ok (.iload_n 2, 1) := dk_28 (dk_at dksX0_becomes_2 3 rfl rfl)
theorem dX0_becomes_49 : decode cX0_becomes 49 = .ok (.aaload, 1) := dk_50 (dk_at dksX0_becomes_2 4 rfl rfl)
theorem dX0_becomes_50 : decode cX0_becomes 50 = .ok (.aload_n 0, 1) := dk_42 (dk_at dksX0_becomes_2 5 rfl rfl)
theorem dX0_becomes_51 : decode cX0_becomes 51 = .ok (.getfield 36, 3) := dk_180 0 36 (dk_at dksX0_becomes_2 6 rfl rfl)
theorem dX0_becomes_54 : decode cX0_becomes 54 = .ok (.iload_n 3, 1) := dk_29 (dk_at dksX0_becomes_2 9 rfl rfl)
theorem dX0_becomes_55 : decode cX0_becomes 55 = .ok (.invokevirtual 157, 3) := dk_182 0 157 (dk_at dksX0_becomes_2 10 rfl rfl)
theorem dX0_becomes_58 : decode cX0_becomes 58 = .ok (.ifCond .eq 15, 3) := dk_153 0 15 (dk_at dksX0_becomes_2 13 rfl rfl)
theorem dX0_becomes_61 : decode cX0_becomes 61 = .ok (.aload_n 0, 1) := dk_42 (dk_at dksX0_becomes_2 16 rfl rfl)
theorem dX0_becomes_62 : decode cX0_becomes 62 = .ok (.getfield 36, 3) := dk_180 0 36 (dk_at dksX0_becomes_2 17 rfl rfl)
theorem dX0_becomes_65 : decode cX0_becomes 65 = .ok (.getfield 160, 3) := dk_180 0 160 (dk_at dksX0_becomes_2 20 rfl rfl)
theorem dX0_becomes_68 : decode cX0_becomes 68 = .ok (.iload_n 3, 1) := dk_29 (dk_at dksX0_becomes_2 23 rfl rfl)
theorem dX0_becomes_69 : decode cX0_becomes 69 = .ok (.aaload, 1) := dk_50 (dk_at dksX0_becomes_3 0 rfl rfl)
theorem dX0_becomes_70 : decode cX0_becomes 70 = .ok (.goto 4, 3) := dk_167 0 4 (dk_at dksX0_becomes_3 1 rfl rfl)
theorem dX0_becomes_73 : decode cX0_becomes 73 = .ok (.aconst_null, 1) := dk_1 (dk_at dksX0_becomes_3 4 rfl rfl)
theorem dX0_becomes_74 : decode cX0_becomes 74 = .ok (.putfield 113, 3) := dk_181 0 113 (dk_at dksX0_becomes_3 5 rfl rfl)
theorem dX0_becomes_77 : decode cX0_becomes 77 = .ok (.iinc 2 1, 3) := dk_132 2 1 (dk_at dksX0_becomes_3 8 rfl rfl)
theorem dX0_becomes_80 : decode cX0_becomes 80 = .ok (.goto (-73), 3) := dk_167 255 183 (dk_at dksX0_becomes_3 11 rfl rfl)
theorem dX0_becomes_83 : decode cX0_becomes 83 = .ok (.return_, 1) := dk_177 (dk_at dksX0_becomes_3 14 rfl rfl)
abbrev cX0_sortAt : ByteArray := prog_1_method_32_code
def yX0_sortAt : MethodName := ⟨RX0, "sortAt", "(I)I"⟩
def dkwX0_sortAt_1 : List UInt8 := [16, 254, 182, 0, 105, 172]
abbrev dktX0_sortAt_1 : List UInt8 := dkwX0_sortAt_1 ++ []
def dkwX0_sortAt_0 : List UInt8 := [27, 184, 0, 180, 153, 0, 18, 42, 180, 0, 36, 180, 0, 186, 180, 0, 189, 27, 46, 167, 0, 9, 42]
abbrev dktX0_sortAt_0 : List UInt8 := dkwX0_sortAt_0 ++ dktX0_sortAt_1
theorem dksX0_sortAt_0 : cX0_sortAt.data.toList.drop 0 = dktX0_sortAt_0 := by decide +kernel
theorem dksX0_sortAt_1 : cX0_sortAt.data.toList.drop 23 = dktX0_sortAt_1 := dk_seg dksX0_sortAt_0 23 rfl rfl
theorem dX0_sortAt_0 : decode cX0_sortAt 0 = .ok (.iload_n 1, 1) := dk_27 (dk_at dksX0_sortAt_0 0 rfl rfl)
theorem dX0_sortAt_1 : decode cX0_sortAt 1 = .ok (.invokestatic 180, 3) := dk_184 0 180 (dk_at dksX0_sortAt_0 1 rfl rfl)
theorem dX0_sortAt_4 : decode cX0_sortAt 4 = .ok (.ifCond .eq 18, 3) := dk_153 0 18 (dk_at dksX0_sortAt_0 4 rfl rfl)
theorem dX0_sortAt_7 : decode cX0_sortAt 7 = .ok (.aload_n 0, 1) := dk_42 (dk_at dksX0_sortAt_0 7 rfl rfl)
theorem dX0_sortAt_8 : decode cX0_sortAt 8 = .ok (.getfield 36, 3) := dk_180 0 36 (dk_at dksX0_sortAt_0 8 rfl rfl)
theorem dX0_sortAt_11 : decode cX0_sortAt 11 = .ok (.getfield 186, 3) := dk_180 0 186 (dk_at dksX0_sortAt_0 11 rfl rfl)
theorem dX0_sortAt_14 : decode cX0_sortAt 14 = .ok (.getfield 189, 3) := dk_180 0 189 (dk_at dksX0_sortAt_0 14 rfl rfl)
theorem dX0_sortAt_17 : decode cX0_sortAt 17 = .ok (.iload_n 1, 1) := dk_27 (dk_at dksX0_sortAt_0 17 rfl rfl)
theorem dX0_sortAt_18 : decode cX0_sortAt 18 = .ok (.iaload, 1) := dk_46 (dk_at dksX0_sortAt_0 18 rfl rfl)
theorem dX0_sortAt_19 : decode cX0_sortAt 19 = .ok (.goto 9, 3) := dk_167 0 9 (dk_at dksX0_sortAt_0 19 rfl rfl)
theorem dX0_sortAt_22 : decode cX0_sortAt 22 = .ok (.aload_n 0, 1) := dk_42 (dk_at dksX0_sortAt_0 22 rfl rfl)
theorem dX0_sortAt_23 : decode cX0_sortAt 23 = .ok (.bipush (-2), 2) := dk_16 254 (dk_at dksX0_sortAt_1 0 rfl rfl)
theorem dX0_sortAt_25 : decode cX0_sortAt 25 = .ok (.invokevirtual 105, 3) := dk_182 0 105 (dk_at dksX0_sortAt_1 2 rfl rfl)
theorem dX0_sortAt_28 : decode cX0_sortAt 28 = .ok (.ireturn, 1) := dk_172 (dk_at dksX0_sortAt_1 5 rfl rfl)
abbrev cX0_lookerOf : ByteArray := prog_1_method_33_code
def yX0_lookerOf : MethodName := ⟨RX0, "lookerOf", "(II)I"⟩
def dkwX0_lookerOf_6 : List UInt8 := [167, 0, 9, 42, 16, 254, 182, 0, 105, 172]
abbrev dktX0_lookerOf_6 : List UInt8 := dkwX0_lookerOf_6 ++ []
def dkwX0_lookerOf_5 : List UInt8 := [184, 0, 183, 153, 0, 23, 42, 180, 0, 36, 180, 0, 244, 16, 8, 27, 104, 28, 96, 16, 10, 100, 46]
abbrev dktX0_lookerOf_5 : List UInt8 := dkwX0_lookerOf_5 ++ dktX0_lookerOf_6
def dkwX0_lookerOf_4 : List UInt8 := [42, 180, 0, 36, 180, 0, 206, 27, 46, 172, 42, 180, 0, 36, 180, 0, 209, 27, 46, 172, 28, 16, 10, 100]
abbrev dktX0_lookerOf_4 : List UInt8 := dkwX0_lookerOf_4 ++ dktX0_lookerOf_5
def dkwX0_lookerOf_3 : List UInt8 := [180, 0, 241, 172, 42, 180, 0, 36, 180, 0, 171, 27, 46, 172, 42, 180, 0, 36, 180, 0, 199, 27, 46, 172]
abbrev dktX0_lookerOf_3 : List UInt8 := dkwX0_lookerOf_3 ++ dktX0_lookerOf_4
def dkwX0_lookerOf_2 : List UInt8 := [42, 180, 0, 36, 180, 0, 160, 27, 50, 182, 0, 238, 172, 42, 180, 0, 36, 180, 0, 160, 27, 50]
abbrev dktX0_lookerOf_2 : List UInt8 := dkwX0_lookerOf_2 ++ dktX0_lookerOf_3
def dkwX0_lookerOf_1 : List UInt8 := [170, 0, 0, 0, 103, 0, 0, 0, 0, 0, 0, 0, 5, 0, 0, 0, 37, 0, 0, 0, 50, 0, 0, 0, 63, 0, 0, 0, 73, 0, 0, 0, 83, 0, 0, 0, 93]
abbrev dktX0_lookerOf_1 : List UInt8 := dkwX0_lookerOf_1 ++ dktX0_lookerOf_2
def dkwX0_lookerOf_0 : List UInt8 := [42, 180, 0, 36, 27, 182, 0, 157, 154, 0, 10, 42, 16, 254, 182, 0, 105, 172, 28]
abbrev dktX0_lookerOf_0 : List UInt8 := dkwX0_lookerOf_0 ++ dktX0_lookerOf_1
theorem dksX0_lookerOf_0 : cX0_lookerOf.data.toList.drop 0 = dktX0_lookerOf_0 := by decide +kernel
theorem dksX0_lookerOf_1 : cX0_lookerOf.data.toList.drop 19 = dktX0_lookerOf_1 := dk_seg dksX0_lookerOf_0 19 rfl rfl
theorem dksX0_lookerOf_2 : cX0_lookerOf.data.toList.drop 56 = dktX0_lookerOf_2 := dk_seg dksX0_lookerOf_1 37 rfl rfl
theorem dksX0_lookerOf_3 : cX0_lookerOf.data.toList.drop 78 = dktX0_lookerOf_3 := dk_seg dksX0_lookerOf_2 22 rfl rfl
theorem dksX0_lookerOf_4 : cX0_lookerOf.data.toList.drop 102 = dktX0_lookerOf_4 := dk_seg dksX0_lookerOf_3 24 rfl rfl
theorem dksX0_lookerOf_5 : cX0_lookerOf.data.toList.drop 126 = dktX0_lookerOf_5 := dk_seg dksX0_lookerOf_4 24 rfl rfl
theorem dksX0_lookerOf_6 : cX0_lookerOf.data.toList.drop 149 = dktX0_lookerOf_6 := dk_seg dksX0_lookerOf_5 23 rfl rfl
theorem dX0_lookerOf_0 : decode cX0_lookerOf 0 = .ok (.aload_n 0, 1) := dk_42 (dk_at dksX0_lookerOf_0 0 rfl rfl)
theorem dX0_lookerOf_1 : decode cX0_lookerOf 1 = .ok (.getfield 36, 3) := dk_180 0 36 (dk_at dksX0_lookerOf_0 1 rfl rfl)
theorem dX0_lookerOf_4 : decode cX0_lookerOf 4 = .ok (.iload_n 1, 1) := dk_27 (dk_at dksX0_lookerOf_0 4 rfl rfl)
theorem dX0_lookerOf_5 : decode cX0_lookerOf 5 = .ok (.invokevirtual 157, 3) := dk_182 0 157 (dk_at dksX0_lookerOf_0 5 rfl rfl)
theorem dX0_lookerOf_8 : decode cX0_lookerOf 8 = .ok (.ifCond .ne 10, 3) := dk_154 0 10 (dk_at dksX0_lookerOf_0 8 rfl rfl)
theorem dX0_lookerOf_11 : decode cX0_lookerOf 11 = .ok (.aload_n 0, 1) := dk_42 (dk_at dksX0_lookerOf_0 11 rfl rfl)
theorem dX0_lookerOf_12 : decode cX0_lookerOf 12 = .ok (.bipush (-2), 2) := dk_16 254 (dk_at dksX0_lookerOf_0 12 rfl rfl)
theorem dX0_lookerOf_14 : decode cX0_lookerOf 14 = .ok (.invokevirtual 105, 3) := dk_182 0 105 (dk_at dksX0_lookerOf_0 14 rfl rfl)
theorem dX0_lookerOf_17 : decode cX0_lookerOf 17 = .ok (.ireturn, 1) := dk_172 (dk_at dksX0_lookerOf_0 17 rfl rfl)
theorem dX0_lookerOf_18 : decode cX0_lookerOf 18 = .ok (.iload_n 2, 1) := dk_28 (dk_at dksX0_lookerOf_0 18 rfl rfl)
theorem dX0_lookerOf_19 : decode cX0_lookerOf 19 = .ok (.tableswitch 103 0 5 #[37, 50, 63, 73, 83, 93], 37) := by decide +kernel
theorem dX0_lookerOf_56 : decode cX0_lookerOf 56 = .ok (.aload_n 0, 1) := dk_42 (dk_at dksX0_lookerOf_2 0 rfl rfl)
theorem dX0_lookerOf_57 : decode cX0_lookerOf 57 = .ok (.getfield 36, 3) := dk_180 0 36 (dk_at dksX0_lookerOf_2 1 rfl rfl)
theorem dX0_lookerOf_60 : decode cX0_lookerOf 60 = .ok (.getfield 160, 3) := dk_180 0 160 (dk_at dksX0_lookerOf_2 4 rfl rfl)
theorem dX0_lookerOf_63 : decode cX0_lookerOf 63 = .ok (.iload_n 1, 1) := dk_27 (dk_at dksX0_lookerOf_2 7 rfl rfl)
theorem dX0_lookerOf_64 : decode cX0_lookerOf 64 = .ok (.aaload, 1) := dk_50 (dk_at dksX0_lookerOf_2 8 rfl rfl)
theorem dX0_lookerOf_65 : decode cX0_lookerOf 65 = .ok (.invokevirtual 238, 3) := dk_182 0 238 (dk_at dksX0_lookerOf_2 9 rfl rfl)
theorem dX0_lookerOf_68 : decode cX0_lookerOf 68 = .ok (.ireturn, 1) := dk_172 (dk_at dksX0_lookerOf_2 12 rfl rfl)
theorem dX0_lookerOf_69 : decode cX0_lookerOf 69 = .ok (.aload_n 0, 1) := dk_42 (dk_at dksX0_lookerOf_2 13 rfl rfl)
theorem dX0_lookerOf_70 : decode cX0_lookerOf 70 = .ok (.getfield 36, 3) := dk_180 0 36 (dk_at dksX0_lookerOf_2 14 rfl rfl)
theorem dX0_lookerOf_73 : decode cX0_lookerOf 73 = .ok (.getfield 160, 3) := dk_180 0 160 (dk_at dksX0_lookerOf_2 17 rfl rfl)
theorem dX0_lookerOf_76 : decode cX0_lookerOf 76 = .ok (.iload_n 1, 1) := dk_27 (dk_at dksX0_lookerOf_2 20 rfl rfl)
theorem dX0_lookerOf_77 : decode cX0_lookerOf 77 = .ok (.aaload, 1) := dk_50 (dk_at dksX0_lookerOf_2 21 rfl rfl)
theorem dX0_lookerOf_78 : decode cX0_lookerOf 78 = .ok (.getfield 241, 3) := dk_180 0 241 (dk_at dksX0_lookerOf_3 0 rfl rfl)
theorem dX0_lookerOf_81 : decode cX0_lookerOf 81 = .ok (.ireturn, 1) := dk_172 (dk_at dksX0_lookerOf_3 3 rfl rfl)
theorem dX0_lookerOf_82 : decode cX0_lookerOf 82 = .ok (.aload_n 0, 1) := dk_42 (dk_at dksX0_lookerOf_3 4 rfl rfl)
theorem dX0_lookerOf_83 : decode cX0_lookerOf 83 = .ok (.getfield 36, 3) := dk_180 0 36 (dk_at dksX0_lookerOf_3 5 rfl rfl)
theorem dX0_lookerOf_86 : decode cX0_lookerOf 86 = .ok (.getfield 171, 3) := dk_180 0 171 (dk_at dksX0_lookerOf_3 8 rfl rfl)
theorem dX0_lookerOf_89 : decode cX0_lookerOf 89 = .ok (.iload_n 1, 1) := dk_27 (dk_at dksX0_lookerOf_3 11 rfl rfl)
theorem dX0_lookerOf_90 : decode cX0_lookerOf 90 = .ok (.iaload, 1) := dk_46 (dk_at dksX0_lookerOf_3 12 rfl rfl)
theorem dX0_lookerOf_91 : decode cX0_lookerOf 91 = .ok (.ireturn, 1) := dk_172 (dk_at dksX0_lookerOf_3 13 rfl rfl)
theorem dX0_lookerOf_92 : decode cX0_lookerOf 92 = .ok (.aload_n 0, 1) := dk_42 (dk_at dksX0_lookerOf_3 14 rfl rfl)
theorem dX0_lookerOf_93 : decode cX0_lookerOf 93 = .ok (.getfield 36, 3) := dk_180 0 36 (dk_at dksX0_lookerOf_3 15 rfl rfl)
theorem dX0_lookerOf_96 : decode cX0_lookerOf 96 = .ok (.getfield 199, 3) := dk_180 0 199 (dk_at dksX0_lookerOf_3 18 rfl rfl)
theorem dX0_lookerOf_99 : decode cX0_lookerOf 99 = .ok (.iload_n 1, 1) := dk_27 (dk_at dksX0_lookerOf_3 21 rfl rfl)
theorem dX0_lookerOf_100 : decode cX0_lookerOf 100 = .ok (.iaload, 1) := dk_46 (dk_at dksX0_lookerOf_3 22 rfl rfl)
theorem dX0_lookerOf_101 : decode cX0_lookerOf 101 = .ok (.ireturn, 1) := dk_172 (dk_at dksX0_lookerOf_3 23 rfl rfl)
theorem dX0_lookerOf_102 : decode cX0_lookerOf 102 = .ok (.aload_n 0, 1) := dk_42 (dk_at dksX0_lookerOf_4 0 rfl rfl)
theorem dX0_lookerOf_103 : decode cX0_lookerOf 103 = .ok (.getfield 36, 3) := dk_180 0 36 (dk_at dksX0_lookerOf_4 1 rfl rfl)
theorem dX0_lookerOf_106 : decode cX0_lookerOf 106 = .ok (.getfield 206, 3) := dk_180 0 206 (dk_at dksX0_lookerOf_4 4 rfl rfl)
theorem dX0_lookerOf_109 : decode cX0_lookerOf 109 = .ok (.iload_n 1, 1) := dk_27 (dk_at dksX0_lookerOf_4 7 rfl rfl)
theorem dX0_lookerOf_110 : decode cX0_lookerOf 110 = .ok (.iaload, 1) := dk_46 (dk_at dksX0_lookerOf_4 8 rfl rfl)
theorem dX0_lookerOf_111 : decode cX0_lookerOf 111 = .ok (.ireturn, 1) := dk_172 (dk_at dksX0_lookerOf_4 9 rfl rfl)
theorem dX0_lookerOf_112 : decode cX0_lookerOf 112 = .ok (.aload_n 0, 1) := dk_42 (dk_at dksX0_lookerOf_4 10 rfl rfl)
theorem dX0_lookerOf_113 : decode cX0_lookerOf 113 = .ok (.getfield 36, 3) := dk_180 0 36 (dk_at dksX0_lookerOf_4 11 rfl rfl)
theorem dX0_lookerOf_116 : decode cX0_lookerOf 116 = .ok (.getfield 209, 3) := dk_180 0 209 (dk_at dksX0_lookerOf_4 14 rfl rfl)
theorem dX0_lookerOf_119 : decode cX0_lookerOf 119 = .ok (.iload_n 1, 1) := dk_27 (dk_at dksX0_lookerOf_4 17 rfl rfl)
theorem dX0_lookerOf_120 : decode cX0_lookerOf 120 = .ok (.iaload, 1) := dk_46 (dk_at dksX0_lookerOf_4 18 rfl rfl)
theorem dX0_lookerOf_121 : decode cX0_lookerOf 121 = .ok (.ireturn, 1) := dk_172 (dk_at dksX0_lookerOf_4 19 rfl rfl)
theorem dX0_lookerOf_122 : decode cX0_lookerOf 122 = .ok (.iload_n 2, 1) := dk_28 (dk_at dksX0_lookerOf_4 20 rfl rfl)
theorem dX0_lookerOf_123 : decode cX0_lookerOf 123 = .ok (.bipush 10, 2) := dk_16 10 (dk_at dksX0_lookerOf_4 21 rfl rfl)
theorem dX0_lookerOf_125 : decode cX0_lookerOf 125 = .ok (.isub, 1) := dk_100 (dk_at dksX0_lookerOf_4 23 rfl rfl)
theorem dX0_lookerOf_126 : decode cX0_lookerOf 126 = .ok (.invokestatic 183, 3) := dk_184 0 183 (dk_at dksX0_lookerOf_5 0 rfl rfl)
theorem dX0_lookerOf_129 : decode cX0_lookerOf 129 = .ok (.ifCond .eq 23, 3) := dk_153 0 23 (dk_at dksX0_lookerOf_5 3 rfl rfl)
theorem dX0_lookerOf_132 : decode cX0_lookerOf 132 = .ok (.aload_n 0, 1) := dk_42 (dk_at dksX0_lookerOf_5 6 rfl rfl)
theorem dX0_lookerOf_133 : decode cX0_lookerOf 133 = .ok (.getfield 36, 3) := dk_180 0 36 (dk_at dksX0_lookerOf_5 7 rfl rfl)
theorem dX0_lookerOf_136 : decode cX0_lookerOf 136 = .ok (.getfield 244, 3) := dk_180 0 244 (dk_at dksX0_lookerOf_5 10 rfl rfl)
theorem dX0_lookerOf_139 : decode cX0_lookerOf 139 = .ok (.bipush 8, 2) := dk_16 8 (dk_at dksX0_lookerOf_5 13 rfl rfl)
theorem dX0_lookerOf_141 : decode cX0_lookerOf 141 = .ok (.iload_n 1, 1) := dk_27 (dk_at dksX0_lookerOf_5 15 rfl rfl)
theorem dX0_lookerOf_142 : decode cX0_lookerOf 142 = .ok (.imul, 1) := dk_104 (dk_at dksX0_lookerOf_5 16 rfl rfl)
theorem dX0_lookerOf_143 : decode cX0_lookerOf 143 = .ok (.iload_n 2, 1) := dk_28 (dk_at dksX0_lookerOf_5 17 rfl rfl)
theorem dX0_lookerOf_144 : decode cX0_lookerOf 144 = .ok (.iadd, 1) := dk_96 (dk_at dksX0_lookerOf_5 18 rfl rfl)
theorem dX0_lookerOf_145 : decode cX0_lookerOf 145 = .ok (.bipush 10, 2) := dk_16 10 (dk_at dksX0_lookerOf_5 19 rfl rfl)
theorem dX0_lookerOf_147 : decode cX0_lookerOf 147 = .ok (.isub, 1) := dk_100 (dk_at dksX0_lookerOf_5 21 rfl rfl)
theorem dX0_lookerOf_148 : decode cX0_lookerOf 148 = .ok (.iaload, 1) := dk_46 (dk_at dksX0_lookerOf_5 22 rfl rfl)
theorem dX0_lookerOf_149 : decode cX0_lookerOf 149 = .ok (.goto 9, 3) := dk_167 0 9 (dk_at dksX0_lookerOf_6 0 rfl rfl)
theorem dX0_lookerOf_152 : decode cX0_lookerOf 152 = .ok (.aload_n 0, 1) := dk_42 (dk_at dksX0_lookerOf_6 3 rfl rfl)
theorem dX0_lookerOf_153 : decode cX0_lookerOf 153 = .ok (.bipush (-2), 2) := dk_16 254 (dk_at dksX0_lookerOf_6 4 rfl rfl)
theorem dX0_lookerOf_155 : decode cX0_lookerOf 155 = .ok (.invokevirtual 105, 3) := dk_182 0 105 (dk_at dksX0_lookerOf_6 6 rfl rfl)
theorem dX0_lookerOf_158 : decode cX0_lookerOf 158 = .ok (.ireturn, 1) := dk_172 (dk_at dksX0_lookerOf_6 9 rfl rfl)
