set_option maxRecDepth 100000
/-! X1 -/
abbrev cX1_init : ByteArray := prog_15_method_1_code
def yX1_init : MethodName := ⟨RX1, "<init>", "()V"⟩
def dkwX1_init_2 : List UInt8 := [42, 16, 8, 188, 10, 181, 0, 34, 42, 16, 64, 188, 10, 181, 0, 37, 42, 4, 181, 0, 40, 177]
abbrev dktX1_init_2 : List UInt8 := dkwX1_init_2 ++ []
def dkwX1_init_1 : List UInt8 := [42, 16, 8, 188, 10, 181, 0, 24, 42, 16, 8, 188, 10, 181, 0, 28, 42, 16, 8, 188, 10, 181, 0, 31]
abbrev dktX1_init_1 : List UInt8 := dkwX1_init_1 ++ dktX1_init_2
def dkwX1_init_0 : List UInt8 := [42, 183, 0, 3, 42, 187, 0, 9, 89, 183, 0, 11, 181, 0, 12, 42, 16, 8, 189, 0, 18, 181, 0, 20]
abbrev dktX1_init_0 : List UInt8 := dkwX1_init_0 ++ dktX1_init_1
theorem dksX1_init_0 : cX1_init.data.toList.drop 0 = dktX1_init_0 := by decide +kernel
theorem dksX1_init_1 : cX1_init.data.toList.drop 24 = dktX1_init_1 := dk_seg dksX1_init_0 24 rfl rfl
theorem dksX1_init_2 : cX1_init.data.toList.drop 48 = dktX1_init_2 := dk_seg dksX1_init_1 24 rfl rfl
theorem dX1_init_0 : decode cX1_init 0 = .ok (.aload_n 0, 1) := dk_42 (dk_at dksX1_init_0 0 rfl rfl)
theorem dX1_init_1 : decode cX1_init 1 = .ok (.invokespecial 3, 3) := dk_183 0 3 (dk_at dksX1_init_0 1 rfl rfl)
theorem dX1_init_4 : decode cX1_init 4 = .ok (.aload_n 0, 1) := dk_42 (dk_at dksX1_init_0 4 rfl rfl)
theorem dX1_init_5 : decode cX1_init 5 = .ok (.new 9, 3) := dk_187 0 9 (dk_at dksX1_init_0 5 rfl rfl)
theorem dX1_init_8 : decode cX1_init 8 = .ok (.dup, 1) := dk_89 (dk_at dksX1_init_0 8 rfl rfl)
theorem dX1_init_9 : decode cX1_init 9 = .ok (.invokespecial 11, 3) := dk_183 0 11 (dk_at dksX1_init_0 9 rfl rfl)
theorem dX1_init_12 : decode cX1_init 12 = .ok (.putfield 12, 3) := dk_181 0 12 (dk_at dksX1_init_0 12 rfl rfl)
theorem dX1_init_15 : decode cX1_init 15 = .ok (.aload_n 0, 1) := dk_42 (dk_at dksX1_init_0 15 rfl rfl)
theorem dX1_init_16 : decode cX1_init 16 = .ok (.bipush 8, 2) := dk_16 8 (dk_at dksX1_init_0 16 rfl rfl)
theorem dX1_init_18 : decode cX1_init 18 = .ok (.anewarray 18, 3) := dk_189 0 18 (dk_at dksX1_init_0 18 rfl rfl)
theorem dX1_init_21 : decode cX1_init 21 = .ok (.putfield 20, 3) := dk_181 0 20 (dk_at dksX1_init_0 21 rfl rfl)
theorem dX1_init_24 : decode cX1_init 24 = .ok (.aload_n 0, 1) := dk_42 (dk_at dksX1_init_1 0 rfl rfl)
theorem dX1_init_25 : decode cX1_init 25 = .ok (.bipush 8, 2) := dk_16 8 (dk_at dksX1_init_1 1 rfl rfl)
theorem dX1_init_27 : decode cX1_init 27 = .ok (.newarray .int, 2) := dk_188_10 (dk_at dksX1_init_1 3 rfl rfl)
theorem dX1_init_29 : decode cX1_init 29 = .ok (.putfield 24, 3) := dk_181 0 24 (dk_at dksX1_init_1 5 rfl rfl)
theorem dX1_init_32 : decode cX1_init 32 = .ok (.aload_n 0, 1) := dk_42 (dk_at dksX1_init_1 8 rfl rfl)
theorem dX1_init_33 : decode cX1_init 33 = .ok (.bipush 8, 2) := dk_16 8 (dk_at dksX1_init_1 9 rfl rfl)
theorem dX1_init_35 : decode cX1_init 35 = .ok (.newarray .int, 2) := dk_188_10 (dk_at dksX1_init_1 11 rfl rfl)
theorem dX1_init_37 : decode cX1_init 37 = .ok (.putfield 28, 3) := dk_181 0 28 (dk_at dksX1_init_1 13 rfl rfl)
theorem dX1_init_40 : decode cX1_init 40 = .ok (.aload_n 0, 1) := dk_42 (dk_at dksX1_init_1 16 rfl rfl)
theorem dX1_init_41 : decode cX1_init 41 = .ok (.bipush 8, 2) := dk_16 8 (dk_at dksX1_init_1 17 rfl rfl)
theorem dX1_init_43 : decode cX1_init 43 = .ok (.newarray .int, 2) := dk_188_10 (dk_at dksX1_init_1 19 rfl rfl)
theorem dX1_init_45 : decode cX1_init 45 = .ok (.putfield 31, 3) := dk_181 0 31 (dk_at dksX1_init_1 21 rfl rfl)
theorem dX1_init_48 : decode cX1_init 48 = .ok (.aload_n 0, 1) := dk_42 (dk_at dksX1_init_2 0 rfl rfl)
theorem dX1_init_49 : decode cX1_init 49 = .ok (.bipush 8, 2) := dk_16 8 (dk_at dksX1_init_2 1 rfl rfl)
theorem dX1_init_51 : decode cX1_init 51 = .ok (.newarray .int, 2) := dk_188_10 (dk_at dksX1_init_2 3 rfl rfl)
theorem dX1_init_53 : decode cX1_init 53 = .ok (.putfield 34, 3) := dk_181 0 34 (dk_at dksX1_init_2 5 rfl rfl)
theorem dX1_init_56 : decode cX1_init 56 = .ok (.aload_n 0, 1) := dk_42 (dk_at dksX1_init_2 8 rfl rfl)
theorem dX1_init_57 : decode cX1_init 57 = .ok (.bipush 64, 2) := dk_16 64 (dk_at dksX1_init_2 9 rfl rfl)
theorem dX1_init_59 : decode cX1_init 59 = .ok (.newarray .int, 2) := dk_188_10 (dk_at dksX1_init_2 11 rfl rfl)
theorem dX1_init_61 : decode cX1_init 61 = .ok (.putfield 37, 3) := dk_181 0 37 (dk_at dksX1_init_2 13 rfl rfl)
theorem dX1_init_64 : decode cX1_init 64 = .ok (.aload_n 0, 1) := dk_42 (dk_at dksX1_init_2 16 rfl rfl)
theorem dX1_init_65 : decode cX1_init 65 = .ok (.iconst 1, 1) := dk_4 (dk_at dksX1_init_2 17 rfl rfl)
theorem dX1_init_66 : decode cX1_init 66 = .ok (.putfield 40, 3) := dk_181 0 40 (dk_at dksX1_init_2 18 rfl rfl)
theorem dX1_init_69 : decode cX1_init 69 = .ok (.return_, 1) := dk_177 (dk_at dksX1_init_2 21 rfl rfl)
abbrev cX1_isLooker : ByteArray := prog_15_method_5_code
def yX1_isLooker : MethodName := ⟨RX1, "isLooker", "(I)Z"⟩
def dkwX1_isLooker_0 : List UInt8 := [27, 3, 42, 180, 0, 54, 4, 100, 184, 0, 74, 172]
abbrev dktX1_isLooker_0 : List UInt8 := dkwX1_isLooker_0 ++ []
theorem dksX1_isLooker_0 : cX1_isLooker.data.toList.drop 0 = dktX1_isLooker_0 := by decide +kernel
theorem dX1_isLooker_0 : decode cX1_isLooker 0 = .ok (.iload_n 1, 1) := dk_27 (dk_at dksX1_isLooker_0 0 rfl rfl)
theorem dX1_isLooker_1 : decode cX1_isLooker 1 = .ok (.iconst 0, 1) := dk_3 (dk_at dksX1_isLooker_0 1 rfl rfl)
theorem dX1_isLooker_2 : decode cX1_isLooker 2 = .ok (.aload_n 0, 1) := dk_42 (dk_at dksX1_isLooker_0 2 rfl rfl)
theorem dX1_isLooker_3 : decode cX1_isLooker 3 = .ok (.getfield 54, 3) := dk_180 0 54 (dk_at dksX1_isLooker_0 3 rfl rfl)
theorem dX1_isLooker_6 : decode cX1_isLooker 6 = .ok (.iconst 1, 1) := dk_4 (dk_at dksX1_isLooker_0 6 rfl rfl)
theorem dX1_isLooker_7 : decode cX1_isLooker 7 = .ok (.isub, 1) := dk_100 (dk_at dksX1_isLooker_0 7 rfl rfl)
theorem dX1_isLooker_8 : decode cX1_isLooker 8 = .ok (.invokestatic 74, 3) := dk_184 0 74 (dk_at dksX1_isLooker_0 8 rfl rfl)
theorem dX1_isLooker_11 : decode cX1_isLooker 11 = .ok (.ireturn, 1) := dk_172 (dk_at dksX1_isLooker_0 11 rfl rfl)
abbrev cX1_next : ByteArray := prog_15_method_8_code
def yX1_next : MethodName := ⟨RX1, "next", "(I)I"⟩
def dkwX1_next_2 : List UInt8 := [132, 3, 1, 167, 255, 211, 28, 172]
abbrev dktX1_next_2 : List UInt8 := dkwX1_next_2 ++ []
def dkwX1_next_1 : List UInt8 := [159, 0, 18, 42, 180, 0, 24, 29, 46, 42, 180, 0, 24, 28, 46, 162, 0, 7, 29, 167, 0, 4, 28, 61]
abbrev dktX1_next_1 : List UInt8 := dkwX1_next_1 ++ dktX1_next_2
def dkwX1_next_0 : List UInt8 := [2, 61, 3, 62, 29, 42, 180, 0, 54, 162, 0, 43, 27, 29, 184, 0, 81, 153, 0, 27, 28, 2]
abbrev dktX1_next_0 : List UInt8 := dkwX1_next_0 ++ dktX1_next_1
theorem dksX1_next_0 : cX1_next.data.toList.drop 0 = dktX1_next_0 := by decide +kernel
theorem dksX1_next_1 : cX1_next.data.toList.drop 22 = dktX1_next_1 := dk_seg dksX1_next_0 22 rfl rfl
theorem dksX1_next_2 : cX1_next.data.toList.drop 46 = dktX1_next_2 := dk_seg dksX1_next_1 24 rfl rfl
theorem dX1_next_0 : decode cX1_next 0 = .ok (.iconst (-1), 1) := dk_2 (dk_at dksX1_next_0 0 rfl rfl)
theorem dX1_next_1 : decode cX1_next 1 = .ok (.istore_n 2, 1) := dk_61 (dk_at dksX1_next_0 1 rfl rfl)
theorem dX1_next_2 : decode cX1_next 2 = .ok (.iconst 0, 1) := dk_3 (dk_at dksX1_next_0 2 rfl rfl)
theorem dX1_next_3 : decode cX1_next 3 = .ok (.istore_n 3, 1) := dk_62 (dk_at dksX1_next_0 3 rfl rfl)
theorem dX1_next_4 : decode cX1_next 4 = .ok (.iload_n 3, 1) := dk_29 (dk_at dksX1_next_0 4 rfl rfl)
theorem dX1_next_5 : decode cX1_next 5 = .ok (.aload_n 0, 1) := dk_42 (dk_at dksX1_next_0 5 rfl rfl)
theorem dX1_next_6 : decode cX1_next 6 = .ok (.getfield 54, 3) := dk_180 0 54 (dk_at dksX1_next_0 6 rfl rfl)
theorem dX1_next_9 : decode cX1_next 9 = .ok (.if_icmp .ge 43, 3) := dk_162 0 43 (dk_at dksX1_next_0 9 rfl rfl)
theorem dX1_next_12 : decode cX1_next 12 = .ok (.iload_n 1, 1) := dk_27 (dk_at dksX1_next_0 12 rfl rfl)
theorem dX1_next_13 : decode cX1_next 13 = .ok (.iload_n 3, 1) := dk_29 (dk_at dksX1_next_0 13 rfl rfl)
theorem dX1_next_14 : decode cX1_next 14 = .ok (.invokestatic 81, 3) := dk_184 0 81 (dk_at dksX1_next_0 14 rfl rfl)
theorem dX1_next_17 : decode cX1_next 17 = .ok (.ifCond .eq 27, 3) := dk_153 0 27 (dk_at dksX1_next_0 17 rfl rfl)
theorem dX1_next_20 : decode cX1_next 20 = .ok (.iload_n 2, 1) := dk_28 (dk_at dksX1_next_0 20 rfl rfl)
theorem dX1_next_21 : decode cX1_next 21 = .ok (.iconst (-1), 1) := dk_2 (dk_at dksX1_next_0 21 rfl rfl)
theorem dX1_next_22 : decode cX1_next 22 = .ok (.if_icmp .eq 18, 3) := dk_159 0 18 (dk_at dksX1_next_1 0 rfl rfl)
theorem dX1_next_25 : decode cX1_next 25 = .ok (.aload_n 0, 1) := dk_42 (dk_at dksX1_next_1 3 rfl rfl)
theorem dX1_next_26 : decode cX1_next 26 = .ok (.getfield 24, 3) := dk_180 0 24 (dk_at dksX1_next_1 4 rfl rfl)
theorem dX1_next_29 : decode cX1_next 29 = .ok (.iload_n 3, 1) := dk_29 (dk_at dksX1_next_1 7 rfl rfl)
theorem dX1_next_30 : decode cX1_next 30 = .ok (.iaload, 1) := dk_46 (dk_at dksX1_next_1 8 rfl rfl)
theorem dX1_next_31 : decode cX1_next 31 = .ok (.aload_n 0, 1) := dk_42 (dk_at dksX1_next_1 9 rfl rfl)
theorem dX1_next_32 : decode cX1_next 32 = .ok (.getfield 24, 3) := dk_180 0 24 (dk_at dksX1_next_1 10 rfl rfl)
theorem dX1_next_35 : decode cX1_next 35 = .ok (.iload_n 2, 1) := dk_28 (dk_at dksX1_next_1 13 rfl rfl)
theorem dX1_next_36 : decode cX1_next 36 = .ok (.iaload, 1) := dk_46 (dk_at dksX1_next_1 14 rfl rfl)
theorem dX1_next_37 : decode cX1_next 37 = .ok (.if_icmp .ge 7, 3) := dk_162 0 7 (dk_at dksX1_next_1 15 rfl rfl)
theorem dX1_next_40 : decode cX1_next 40 = .ok (.iload_n 3, 1) := dk_29 (dk_at dksX1_next_1 18 rfl rfl)
theorem dX1_next_41 : decode cX1_next 41 = .ok (.goto 4, 3) := dk_167 0 4 (dk_at dksX1_next_1 19 rfl rfl)
theorem dX1_next_44 : decode cX1_next 44 = .ok (.iload_n 2, 1) := dk_28 (dk_at dksX1_next_1 22 rfl rfl)
theorem dX1_next_45 : decode cX1_next 45 = .ok (.istore_n 2, 1) := dk_61 (dk_at dksX1_next_1 23 rfl rfl)
theorem dX1_next_46 : decode cX1_next 46 = .ok (.iinc 3 1, 3) := dk_132 3 1 (dk_at dksX1_next_2 0 rfl rfl)
theorem dX1_next_49 : decode cX1_next 49 = .ok (.goto (-45), 3) := dk_167 255 211 (dk_at dksX1_next_2 3 rfl rfl)
theorem dX1_next_52 : decode cX1_next 52 = .ok (.iload_n 2, 1) := dk_28 (dk_at dksX1_next_2 6 rfl rfl)
theorem dX1_next_53 : decode cX1_next 53 = .ok (.ireturn, 1) := dk_172 (dk_at dksX1_next_2 7 rfl rfl)
abbrev cX1_liked : ByteArray := prog_15_method_7_code
def yX1_liked : MethodName := ⟨RX1, "liked", "(I)I"⟩
def dkwX1_liked_0 : List UInt8 := [42, 180, 0, 28, 27, 46, 4, 42, 180, 0, 20, 27, 50, 180, 0, 78, 120, 128, 172]
abbrev dktX1_liked_0 : List UInt8 := dkwX1_liked_0 ++ []
theorem dksX1_liked_0 : cX1_liked.data.toList.drop 0 = dktX1_liked_0 := by decide +kernel
theorem dX1_liked_0 : decode cX1_liked 0 = .ok (.aload_n 0, 1) := dk_42 (dk_at dksX1_liked_0 0 rfl rfl)
theorem dX1_liked_1 : decode cX1_liked 1 = .ok (.getfield 28, 3) := dk_180 0 28 (dk_at dksX1_liked_0 1 rfl rfl)
theorem dX1_liked_4 : decode cX1_liked 4 = .ok (.iload_n 1, 1) := dk_27 (dk_at dksX1_liked_0 4 rfl rfl)
theorem dX1_liked_5 : decode cX1_liked 5 = .ok (.iaload, 1) := dk_46 (dk_at dksX1_liked_0 5 rfl rfl)
theorem dX1_liked_6 : decode cX1_liked 6 = .ok (.iconst 1, 1) := dk_4 (dk_at dksX1_liked_0 6 rfl rfl)
theorem dX1_liked_7 : decode cX1_liked 7 = .ok (.aload_n 0, 1) := dk_42 (dk_at dksX1_liked_0 7 rfl rfl)
theorem dX1_liked_8 : decode cX1_liked 8 = .ok (.getfield 20, 3) := dk_180 0 20 (dk_at dksX1_liked_0 8 rfl rfl)
theorem dX1_liked_11 : decode cX1_liked 11 = .ok (.iload_n 1, 1) := dk_27 (dk_at dksX1_liked_0 11 rfl rfl)
theorem dX1_liked_12 : decode cX1_liked 12 = .ok (.aaload, 1) := dk_50 (dk_at dksX1_liked_0 12 rfl rfl)
theorem dX1_liked_13 : decode cX1_liked 13 = .ok (.getfield 78, 3) := dk_180 0 78 (dk_at dksX1_liked_0 13 rfl rfl)
theorem dX1_liked_16 : decode cX1_liked 16 = .ok (.ishl, 1) := dk_120 (dk_at dksX1_liked_0 16 rfl rfl)
theorem dX1_liked_17 : decode cX1_liked 17 = .ok (.ior, 1) := dk_128 (dk_at dksX1_liked_0 17 rfl rfl)
theorem dX1_liked_18 : decode cX1_liked 18 = .ok (.ireturn, 1) := dk_172 (dk_at dksX1_liked_0 18 rfl rfl)
abbrev cX1_adds : ByteArray := prog_15_method_4_code
def yX1_adds : MethodName := ⟨RX1, "adds", "(III)I"⟩
def dkwX1_adds_4 : List UInt8 := [42, 180, 0, 54, 4, 100, 172]
abbrev dktX1_adds_4 : List UInt8 := dkwX1_adds_4 ++ []
def dkwX1_adds_3 : List UInt8 := [16, 8, 42, 180, 0, 54, 104, 16, 8, 96, 3, 184, 0, 68, 42, 89, 180, 0, 54, 4, 96, 181, 0, 54]
abbrev dktX1_adds_3 : List UInt8 := dkwX1_adds_3 ++ dktX1_adds_4
def dkwX1_adds_2 : List UInt8 := [16, 6, 79, 42, 180, 0, 34, 42, 180, 0, 54, 2, 79, 42, 180, 0, 37, 16, 8, 42, 180, 0, 54, 104]
abbrev dktX1_adds_2 : List UInt8 := dkwX1_adds_2 ++ dktX1_adds_3
def dkwX1_adds_1 : List UInt8 := [180, 0, 54, 29, 79, 42, 180, 0, 28, 42, 180, 0, 54, 3, 79, 42, 180, 0, 31, 42, 180, 0, 54]
abbrev dktX1_adds_1 : List UInt8 := dkwX1_adds_1 ++ dktX1_adds_2
def dkwX1_adds_0 : List UInt8 := [42, 180, 0, 20, 42, 180, 0, 54, 27, 42, 180, 0, 54, 28, 184, 0, 64, 83, 42, 180, 0, 24, 42]
abbrev dktX1_adds_0 : List UInt8 := dkwX1_adds_0 ++ dktX1_adds_1
theorem dksX1_adds_0 : cX1_adds.data.toList.drop 0 = dktX1_adds_0 := by decide +kernel
theorem dksX1_adds_1 : cX1_adds.data.toList.drop 23 = dktX1_adds_1 := dk_seg dksX1_adds_0 23 rfl rfl
theorem dksX1_adds_2 : cX1_adds.data.toList.drop 46 = dktX1_adds_2 := dk_seg dksX1_adds_1 23 rfl rfl
theorem dksX1_adds_3 : cX1_adds.data.toList.drop 70 = dktX1_adds_3 := dk_seg dksX1_adds_2 24 rfl rfl
theorem dksX1_adds_4 : cX1_adds.data.toList.drop 94 = dktX1_adds_4 := dk_seg dksX1_adds_3 24 rfl rfl
theorem dX1_adds_0 : decode cX1_adds 0 = .ok (.aload_n 0, 1) := dk_42 (dk_at dksX1_adds_0 0 rfl rfl)
theorem dX1_adds_1 : decode cX1_adds 1 = .ok (.getfield 20, 3) := dk_180 0 20 (dk_at dksX1_adds_0 1 rfl rfl)
theorem dX1_adds_4 : decode cX1_adds 4 = .ok (.aload_n 0, 1) := dk_42 (dk_at dksX1_adds_0 4 rfl rfl)
theorem dX1_adds_5 : decode cX1_adds 5 = .ok (.getfield 54, 3) := dk_180 0 54 (dk_at dksX1_adds_0 5 rfl rfl)
theorem dX1_adds_8 : decode cX1_adds 8 = .ok (.iload_n 1, 1) := dk_27 (dk_at dksX1_adds_0 8 rfl rfl)
theorem dX1_adds_9 : decode cX1_adds 9 = .ok (.aload_n 0, 1) := dk_42 (dk_at dksX1_adds_0 9 rfl rfl)
theorem dX1_adds_10 : decode cX1_adds 10 = .ok (.getfield 54, 3) := dk_180 0 54 (dk_at dksX1_adds_0 10 rfl rfl)
theorem dX1_adds_13 : decode cX1_adds 13 = .ok (.iload_n 2, 1) := dk_28 (dk_at dksX1_adds_0 13 rfl rfl)
theorem dX1_adds_14 : decode cX1_adds 14 = .ok (.invokestatic 64, 3) := dk_184 0 64 (dk_at dksX1_adds_0 14 rfl rfl)
theorem dX1_adds_17 : decode cX1_adds 17 = .ok (.aastore, 1) := dk_83 (dk_at dksX1_adds_0 17 rfl rfl)
theorem dX1_adds_18 : decode cX1_adds 18 = .ok (.aload_n 0, 1) := dk_42 (dk_at dksX1_adds_0 18 rfl rfl)
theorem dX1_adds_19 : decode cX1_adds 19 = .ok (.getfield 24, 3) := dk_180 0 24 (dk_at dksX1_adds_0 19 rfl rfl)
theorem dX1_adds_22 : decode cX1_adds 22 = .ok (.aload_n 0, 1) := dk_42 (dk_at dksX1_adds_0 22 rfl rfl)
theorem dX1_adds_23 : decode cX1_adds 23 = .ok (.getfield 54, 3) := dk_180 0 54 (dk_at dksX1_adds_1 0 rfl rfl)
theorem dX1_adds_26 : decode cX1_adds 26 = .ok (.iload_n 3, 1) := dk_29 (dk_at dksX1_adds_1 3 rfl rfl)
theorem dX1_adds_27 : decode cX1_adds 27 = .ok (.iastore, 1) := dk_79 (dk_at dksX1_adds_1 4 rfl rfl)
theorem dX1_adds_28 : decode cX1_adds 28 = .ok (.aload_n 0, 1) := dk_42 (dk_at dksX1_adds_1 5 rfl rfl)
theorem dX1_adds_29 : decode cX1_adds 29 = .ok (.getfield 28, 3) := dk_180 0 28 (dk_at dksX1_adds_1 6 rfl rfl)
theorem dX1_adds_32 : decode cX1_adds 32 = .ok (.aload_n 0, 1) := dk_42 (dk_at dksX1_adds_1 9 rfl rfl)
theorem dX1_adds_33 : decode cX1_adds 33 = .ok (.getfield 54, 3) := dk_180 0 54 (dk_at dksX1_adds_1 10 rfl rfl)
theorem dX1_adds_36 : decode cX1_adds 36 = .ok (.iconst 0, 1) := dk_3 (dk_at dksX1_adds_1 13 rfl rfl)
theorem dX1_adds_37 : decode cX1_adds 37 = .ok (.iastore, 1) := dk_79 (dk_at dksX1_adds_1 14 rfl rfl)
theorem dX1_adds_38 : decode cX1_adds 38 = .ok (.aload_n 0, 1) := dk_42 (dk_at dksX1_adds_1 15 rfl rfl)
theorem dX1_adds_39 : decode cX1_adds 39 = .ok (.getfield 31, 3) := dk_180 0 31 (dk_at dksX1_adds_1 16 rfl rfl)
theorem dX1_adds_42 : decode cX1_adds 42 = .ok (.aload_n 0, 1) := dk_42 (dk_at dksX1_adds_1 19 rfl rfl)
theorem dX1_adds_43 : decode cX1_adds 43 = .ok (.getfield 54, 3) := dk_180 0 54 (dk_at dksX1_adds_1 20 rfl rfl)
theorem dX1_adds_46 : decode cX1_adds 46 = .ok (.bipush 6, 2) := dk_16 6 (dk_at dksX1_adds_2 0 rfl rfl)
theorem dX1_adds_48 : decode cX1_adds 48 = .ok (.iastore, 1) := dk_79 (dk_at dksX1_adds_2 2 rfl rfl)
theorem dX1_adds_49 : decode cX1_adds 49 = .ok (.aload_n 0, 1) := dk_42 (dk_at dksX1_adds_2 3 rfl rfl)
theorem dX1_adds_50 : decode cX1_adds 50 = .ok (.getfield 34, 3) := dk_180 0 34 (dk_at dksX1_adds_2 4 rfl rfl)
theorem dX1_adds_53 : decode cX1_adds 53 = .ok (.aload_n 0, 1) := dk_42 (dk_at dksX1_adds_2 7 rfl rfl)
theorem dX1_adds_54 : decode cX1_adds 54 = .ok (.getfield 54, 3) := dk_180 0 54 (dk_at dksX1_adds_2 8 rfl rfl)
theorem dX1_adds_57 : decode cX1_adds 57 = .ok (.iconst (-1), 1) := dk_2 (dk_at dksX1_adds_2 11 rfl rfl)
theorem dX1_adds_58 : decode cX1_adds 58 = .ok (.iastore, 1) := dk_79 (dk_at dksX1_adds_2 12 rfl rfl)
theorem dX1_adds_59 : decode cX1_adds 59 = .ok (.aload_n 0, 1) := dk_42 (dk_at dksX1_adds_2 13 rfl rfl)
theorem dX1_adds_60 : decode cX1_adds 60 = .ok (.getfield 37, 3) := dk_180 0 37 (dk_at dksX1_adds_2 14 rfl rfl)
theorem dX1_adds_63 : decode cX1_adds 63 = .ok (.bipush 8, 2) := dk_16 8 (dk_at dksX1_adds_2 17 rfl rfl)
theorem dX1_adds_65 : decode cX1_adds 65 = .ok (.aload_n 0, 1) := dk_42 (dk_at dksX1_adds_2 19 rfl rfl)
theorem dX1_adds_66 : decode cX1_adds 66 = .ok (.getfield 54, 3) := dk_180 0 54 (dk_at dksX1_adds_2 20 rfl rfl)
theorem dX1_adds_69 : decode cX1_adds 69 = .ok (.imul, 1) := dk_104 (dk_at dksX1_adds_2 23 rfl rfl)
theorem dX1_adds_70 : decode cX1_adds 70 = .ok (.bipush 8, 2) := dk_16 8 (dk_at dksX1_adds_3 0 rfl rfl)
theorem dX1_adds_72 : decode cX1_adds 72 = .ok (.aload_n 0, 1) := dk_42 (dk_at dksX1_adds_3 2 rfl rfl)
theorem dX1_adds_73 : decode cX1_adds 73 = .ok (.getfield 54, 3) := dk_180 0 54 (dk_at dksX1_adds_3 3 rfl rfl)
theorem dX1_adds_76 : decode cX1_adds 76 = .ok (.imul, 1) := dk_104 (dk_at dksX1_adds_3 6 rfl rfl)
theorem dX1_adds_77 : decode cX1_adds 77 = .ok (.bipush 8, 2) := dk_16 8 (dk_at dksX1_adds_3 7 rfl rfl)
theorem dX1_adds_79 : decode cX1_adds 79 = .ok (.iadd, 1) := dk_96 (dk_at dksX1_adds_3 9 rfl rfl)
theorem dX1_adds_80 : decode cX1_adds 80 = .ok (.iconst 0, 1) := dk_3 (dk_at dksX1_adds_3 10 rfl rfl)
theorem dX1_adds_81 : decode cX1_adds 81 = .ok (.invokestatic 68, 3) := dk_184 0 68 (dk_at dksX1_adds_3 11 rfl rfl)
theorem dX1_adds_84 : decode cX1_adds 84 = .ok (.aload_n 0, 1) := dk_42 (dk_at dksX1_adds_3 14 rfl rfl)
theorem dX1_adds_85 : decode cX1_adds 85 = .ok (.dup, 1) := dk_89 (dk_at dksX1_adds_3 15 rfl rfl)
theorem dX1_adds_86 : decode cX1_adds 86 = .ok (.getfield 54, 3) := dk_180 0 54 (dk_at dksX1_adds_3 16 rfl rfl)
theorem dX1_adds_89 : decode cX1_adds 89 = .ok (.iconst 1, 1) := dk_4 (dk_at dksX1_adds_3 19 rfl rfl)
theorem dX1_adds_90 : decode cX1_adds 90 = .ok (.iadd, 1) := dk_96 (dk_at dksX1_adds_3 20 rfl rfl)
theorem dX1_adds_91 : decode cX1_adds 91 = .ok (.putfield 54, 3) := dk_181 0 54 (dk_at dksX1_adds_3 21 rfl rfl)
theorem dX1_adds_94 : decode cX1_adds 94 = .ok (.aload_n 0, 1) := dk_42 (dk_at dksX1_adds_4 0 rfl rfl)
theorem dX1_adds_95 : decode cX1_adds 95 = .ok (.getfield 54, 3) := dk_180 0 54 (dk_at dksX1_adds_4 1 rfl rfl)
theorem dX1_adds_98 : decode cX1_adds 98 = .ok (.iconst 1, 1) := dk_4 (dk_at dksX1_adds_4 4 rfl rfl)
theorem dX1_adds_99 : decode cX1_adds 99 = .ok (.isub, 1) := dk_100 (dk_at dksX1_adds_4 5 rfl rfl)
theorem dX1_adds_100 : decode cX1_adds 100 = .ok (.ireturn, 1) := dk_172 (dk_at dksX1_adds_4 6 rfl rfl)
abbrev cX1_copied : ByteArray := prog_15_method_3_code
def yX1_copied : MethodName := ⟨RX1, "copied", "()LSeenInOrderOfAge$Window;"⟩
def dkwX1_copied_0 : List UInt8 := [187, 0, 13, 89, 183, 0, 60, 42, 182, 0, 61, 176]
abbrev dktX1_copied_0 : List UInt8 := dkwX1_copied_0 ++ []
theorem dksX1_copied_0 : cX1_copied.data.toList.drop 0 = dktX1_copied_0 := by decide +kernel
theorem dX1_copied_0 : decode cX1_copied 0 = .ok (.new 13, 3) := dk_187 0 13 (dk_at dksX1_copied_0 0 rfl rfl)
theorem dX1_copied_3 : decode cX1_copied 3 = .ok (.dup, 1) := dk_89 (dk_at dksX1_copied_0 3 rfl rfl)
theorem dX1_copied_4 : decode cX1_copied 4 = .ok (.invokespecial 60, 3) := dk_183 0 60 (dk_at dksX1_copied_0 4 rfl rfl)
theorem dX1_copied_7 : decode cX1_copied 7 = .ok (.aload_n 0, 1) := dk_42 (dk_at dksX1_copied_0 7 rfl rfl)
theorem dX1_copied_8 : decode cX1_copied 8 = .ok (.invokevirtual 61, 3) := dk_182 0 61 (dk_at dksX1_copied_0 8 rfl rfl)
theorem dX1_copied_11 : decode cX1_copied 11 = .ok (.areturn, 1) := dk_176 (dk_at dksX1_copied_0 11 rfl rfl)
abbrev cX1_becomes : ByteArray := prog_15_method_2_code
def yX1_becomes : MethodName := ⟨RX1, "becomes", "(LSeenInOrderOfAge$Window;)LSeenInOrderOfAge$Window;"⟩
def dkwX1_becomes_5 : List UInt8 := [180, 0, 40, 181, 0, 40, 42, 176]
abbrev dktX1_becomes_5 : List UInt8 := dkwX1_becomes_5 ++ []
def dkwX1_becomes_4 : List UInt8 := [3, 16, 64, 184, 0, 48, 42, 43, 180, 0, 54, 181, 0, 54, 42, 43, 180, 0, 57, 181, 0, 57, 42, 43]
abbrev dktX1_becomes_4 : List UInt8 := dkwX1_becomes_4 ++ dktX1_becomes_5
def dkwX1_becomes_3 : List UInt8 := [43, 180, 0, 34, 3, 42, 180, 0, 34, 3, 16, 8, 184, 0, 48, 43, 180, 0, 37, 3, 42, 180, 0, 37]
abbrev dktX1_becomes_3 : List UInt8 := dkwX1_becomes_3 ++ dktX1_becomes_4
def dkwX1_becomes_2 : List UInt8 := [180, 0, 28, 3, 16, 8, 184, 0, 48, 43, 180, 0, 31, 3, 42, 180, 0, 31, 3, 16, 8, 184, 0, 48]
abbrev dktX1_becomes_2 : List UInt8 := dkwX1_becomes_2 ++ dktX1_becomes_3
def dkwX1_becomes_1 : List UInt8 := [184, 0, 48, 43, 180, 0, 24, 3, 42, 180, 0, 24, 3, 16, 8, 184, 0, 48, 43, 180, 0, 28, 3, 42]
abbrev dktX1_becomes_1 : List UInt8 := dkwX1_becomes_1 ++ dktX1_becomes_2
def dkwX1_becomes_0 : List UInt8 := [42, 180, 0, 12, 43, 180, 0, 12, 182, 0, 44, 87, 43, 180, 0, 20, 3, 42, 180, 0, 20, 3, 16, 8]
abbrev dktX1_becomes_0 : List UInt8 := dkwX1_becomes_0 ++ dktX1_becomes_1
theorem dksX1_becomes_0 : cX1_becomes.data.toList.drop 0 = dktX1_becomes_0 := by decide +kernel
theorem dksX1_becomes_1 : cX1_becomes.data.toList.drop 24 = dktX1_becomes_1 := dk_seg dksX1_becomes_0 24 rfl rfl
theorem dksX1_becomes_2 : cX1_becomes.data.toList.drop 48 = dktX1_becomes_2 := dk_seg dksX1_becomes_1 24 rfl rfl
theorem dksX1_becomes_3 : cX1_becomes.data.toList.drop 72 = dktX1_becomes_3 := dk_seg dksX1_becomes_2 24 rfl rfl
theorem dksX1_becomes_4 : cX1_becomes.data.toList.drop 96 = dktX1_becomes_4 := dk_seg dksX1_becomes_3 24 rfl rfl
theorem dksX1_becomes_5 : cX1_becomes.data.toList.drop 120 = dktX1_becomes_5 := dk_seg dksX1_becomes_4 24 rfl rfl
theorem dX1_becomes_0 : decode cX1_becomes 0 = .ok (.aload_n 0, 1) := dk_42 (dk_at dksX1_becomes_0 0 rfl rfl)
theorem dX1_becomes_1 : decode cX1_becomes 1 = .ok (.getfield 12, 3) := dk_180 0 12 (dk_at dksX1_becomes_0 1 rfl rfl)
theorem dX1_becomes_4 : decode cX1_becomes 4 = .ok (.aload_n 1, 1) := dk_43 (dk_at dksX1_becomes_0 4 rfl rfl)
theorem dX1_becomes_5 : decode cX1_becomes 5 = .ok (.getfield 12, 3) := dk_180 0 12 (dk_at dksX1_becomes_0 5 rfl rfl)
theorem dX1_becomes_8 : decode cX1_becomes 8 = .ok (.invokevirtual 44, 3) := dk_182 0 44 (dk_at dksX1_becomes_0 8 rfl rfl)
theorem dX1_becomes_11 : decode cX1_becomes 11 = .ok (.pop, 1) := dk_87 (dk_at dksX1_becomes_0 11 rfl rfl)
theorem dX1_becomes_12 : decode cX1_becomes 12 = .ok (.aload_n 1, 1) := dk_43 (dk_at dksX1_becomes_0 12 rfl rfl)
theorem dX1_becomes_13 : decode cX1_becomes 13 = .ok (.getfield 20, 3) := dk_180 0 20 (dk_at dksX1_becomes_0 13 rfl rfl)
theorem dX1_becomes_16 : decode cX1_becomes 16 = .ok (.iconst 0, 1) := dk_3 (dk_at dksX1_becomes_0 16 rfl rfl)
theorem dX1_becomes_17 : decode cX1_becomes 17 = .ok (.aload_n 0, 1) := dk_42 (dk_at dksX1_becomes_0 17 rfl rfl)
theorem dX1_becomes_18 : decode cX1_becomes 18 = .ok (.getfield 20, 3) := dk_180 0 20 (dk_at dksX1_becomes_0 18 rfl rfl)
theorem dX1_becomes_21 : decode cX1_becomes 21 = .ok (.iconst 0, 1) := dk_3 (dk_at dksX1_becomes_0 21 rfl rfl)
theorem dX1_becomes_22 : decode cX1_becomes 22 = .ok (.bipush 8, 2) := dk_16 8 (dk_at dksX1_becomes_0 22 rfl rfl)
theorem dX1_becomes_24 : decode cX1_becomes 24 = .ok (.invokestatic 48, 3) := dk_184 0 48 (dk_at dksX1_becomes_1 0 rfl rfl)
theorem dX1_becomes_27 : decode cX1_becomes 27 = .ok (.aload_n 1, 1) := dk_43 (dk_at dksX1_becomes_1 3 rfl rfl)
theorem dX1_becomes_28 : decode cX1_becomes 28 = .ok (.getfield 24, 3) := dk_180 0 24 (dk_at dksX1_becomes_1 4 rfl rfl)
theorem dX1_becomes_31 : decode cX1_becomes 31 = .ok (.iconst 0, 1) := dk_3 (dk_at dksX1_becomes_1 7 rfl rfl)
theorem dX1_becomes_32 : decode cX1_becomes 32 = .ok (.aload_n 0, 1) := dk_42 (dk_at dksX1_becomes_1 8 rfl rfl)
theorem dX1_becomes_33 : decode cX1_becomes 33 = .ok (.getfield 24, 3) := dk_180 0 24 (dk_at dksX1_becomes_1 9 rfl rfl)
theorem dX1_becomes_36 : decode cX1_becomes 36 = .ok (.iconst 0, 1) := dk_3 (dk_at dksX1_becomes_1 12 rfl rfl)
theorem dX1_becomes_37 : decode cX1_becomes 37 = .ok (.bipush 8, 2) := dk_16 8 (dk_at dksX1_becomes_1 13 rfl rfl)
theorem dX1_becomes_39 : decode cX1_becomes 39 = .ok (.invokestatic 48, 3) := dk_184 0 48 (dk_at dksX1_becomes_1 15 rfl rfl)
theorem dX1_becomes_42 : decode cX1_becomes 42 = .ok (.aload_n 1, 1) := dk_43 (dk_at dksX1_becomes_1 18 rfl rfl)
theorem dX1_becomes_43 : decode cX1_becomes 43 = .ok (.getfield 28, 3) := dk_180 0 28 (dk_at dksX1_becomes_1 19 rfl rfl)
theorem dX1_becomes_46 : decode cX1_becomes 46 = .ok (.iconst 0, 1) := dk_3 (dk_at dksX1_becomes_1 22 rfl rfl)
theorem dX1_becomes_47 : decode cX1_becomes 47 = .ok (.aload_n 0, 1) := dk_42 (dk_at dksX1_becomes_1 23 rfl rfl)
theorem dX1_becomes_48 : decode cX1_becomes 48 = .ok (.getfield 28, 3) := dk_180 0 28 (dk_at dksX1_becomes_2 0 rfl rfl)
theorem dX1_becomes_51 : decode cX1_becomes 51 = .ok (.iconst 0, 1) := dk_3 (dk_at dksX1_becomes_2 3 rfl rfl)
theorem dX1_becomes_52 : decode cX1_becomes 52 = .ok (.bipush 8, 2) := dk_16 8 (dk_at dksX1_becomes_2 4 rfl rfl)
theorem dX1_becomes_54 : decode cX1_becomes 54 = .ok (.invokestatic 48, 3) := dk_184 0 48 (dk_at dksX1_becomes_2 6 rfl rfl)
theorem dX1_becomes_57 : decode cX1_becomes 57 = .ok (.aload_n 1, 1) := dk_43 (dk_at dksX1_becomes_2 9 rfl rfl)
theorem dX1_becomes_58 : decode cX1_becomes 58 = .ok (.getfield 31, 3) := dk_180 0 31 (dk_at dksX1_becomes_2 10 rfl rfl)
theorem dX1_becomes_61 : decode cX1_becomes 61 = .ok (.iconst 0, 1) := dk_3 (dk_at dksX1_becomes_2 13 rfl rfl)
theorem dX1_becomes_62 : decode cX1_becomes 62 = .ok (.aload_n 0, 1) := dk_42 (dk_at dksX1_becomes_2 14 rfl rfl)
theorem dX1_becomes_63 : decode cX1_becomes 63 = .ok (.getfield 31, 3) := dk_180 0 31 (dk_at dksX1_becomes_2 15 rfl rfl)
theorem dX1_becomes_66 : decode cX1_becomes 66 = .ok (.iconst 0, 1) := dk_3 (dk_at dksX1_becomes_2 18 rfl rfl)
theorem dX1_becomes_67 : decode cX1_becomes 67 = .ok (.bipush 8, 2) := dk_16 8 (dk_at dksX1_becomes_2 19 rfl rfl)
theorem dX1_becomes_69 : decode cX1_becomes 69 = .ok (.invokestatic 48, 3) := dk_184 0 48 (dk_at dksX1_becomes_2 21 rfl rfl)
theorem dX1_becomes_72 : decode cX1_becomes 72 = .ok (.aload_n 1, 1) := dk_43 (dk_at dksX1_becomes_3 0 rfl rfl)
theorem dX1_becomes_73 : decode cX1_becomes 73 = .ok (.getfield 34, 3) := dk_180 0 34 (dk_at dksX1_becomes_3 1 rfl rfl)
theorem dX1_becomes_76 : decode cX1_becomes 76 = .ok (.iconst 0, 1) := dk_3 (dk_at dksX1_becomes_3 4 rfl rfl)
theorem dX1_becomes_77 : decode cX1_becomes 77 = .ok (.aload_n 0, 1) := dk_42 (dk_at dksX1_becomes_3 5 rfl rfl)
theorem dX1_becomes_78 : decode cX1_becomes 78 = .ok (.getfield 34, 3) := dk_180 0 34 (dk_at dksX1_becomes_3 6 rfl rfl)
theorem dX1_becomes_81 : decode cX1_becomes 81 = .ok (.iconst 0, 1) := dk_3 (dk_at dksX1_becomes_3 9 rfl rfl)
theorem dX1_becomes_82 : decode cX1_becomes 82 = .ok (.bipush 8, 2) := dk_16 8 (dk_at dksX1_becomes_3 10 rfl rfl)
theorem dX1_becomes_84 : decode cX1_becomes 84 = .ok (.invokestatic 48, 3) := dk_184 0 48 (dk_at dksX1_becomes_3 12 rfl rfl)
theorem dX1_becomes_87 : decode cX1_becomes 87 = .ok (.aload_n 1, 1) := dk_43 (dk_at dksX1_becomes_3 15 rfl rfl)
theorem dX1_becomes_88 : decode cX1_becomes 88 = .ok (.getfield 37, 3) := dk_180 0 37 (dk_at dksX1_becomes_3 16 rfl rfl)
theorem dX1_becomes_91 : decode cX1_becomes 91 = .ok (.iconst 0, 1) := dk_3 (dk_at dksX1_becomes_3 19 rfl rfl)
theorem dX1_becomes_92 : decode cX1_becomes 92 = .ok (.aload_n 0, 1) := dk_42 (dk_at dksX1_becomes_3 20 rfl rfl)
theorem dX1_becomes_93 : decode cX1_becomes 93 = .ok (.getfield 37, 3) := dk_180 0 37 (dk_at dksX1_becomes_3 21 rfl rfl)
theorem dX1_becomes_96 : decode cX1_becomes 96 = .ok (.iconst 0, 1) := dk_3 (dk_at dksX1_becomes_4 0 rfl rfl)
theorem dX1_becomes_97 : decode cX1_becomes 97 = .ok (.bipush 64, 2) := dk_16 64 (dk_at dksX1_becomes_4 1 rfl rfl)
theorem dX1_becomes_99 : decode cX1_becomes 99 = .ok (.invokestatic 48, 3) := dk_184 0 48 (dk_at dksX1_becomes_4 3 rfl rfl)
theorem dX1_becomes_102 : decode cX1_becomes 102 = .ok (.aload_n 0, 1) := dk_42 (dk_at dksX1_becomes_4 6 rfl rfl)
theorem dX1_becomes_103 : decode cX1_becomes 103 = .ok (.aload_n 1, 1) := dk_43 (dk_at dksX1_becomes_4 7 rfl rfl)
theorem dX1_becomes_104 : decode cX1_becomes 104 = .ok (.getfield 54, 3) := dk_180 0 54 (dk_at dksX1_becomes_4 8 rfl rfl)
theorem dX1_becomes_107 : decode cX1_becomes 107 = .ok (.putfield 54, 3) := dk_181 0 54 (dk_at dksX1_becomes_4 11 rfl rfl)
theorem dX1_becomes_110 : decode cX1_becomes 110 = .ok (.aload_n 0, 1) := dk_42 (dk_at dksX1_becomes_4 14 rfl rfl)
theorem dX1_becomes_111 : decode cX1_becomes 111 = .ok (.aload_n 1, 1) := dk_43 (dk_at dksX1_becomes_4 15 rfl rfl)
theorem dX1_becomes_112 : decode cX1_becomes 112 = .ok (.getfield 57, 3) := dk_180 0 57 (dk_at dksX1_becomes_4 16 rfl rfl)
theorem dX1_becomes_115 : decode cX1_becomes 115 = .ok (.putfield 57, 3) := dk_181 0 57 (dk_at dksX1_becomes_4 19 rfl rfl)
theorem dX1_becomes_118 : decode cX1_becomes 118 = .ok (.aload_n 0, 1) := dk_42 (dk_at dksX1_becomes_4 22 rfl rfl)
theorem dX1_becomes_119 : decode cX1_becomes 119 = .ok (.aload_n 1, 1) := dk_43 (dk_at dksX1_becomes_4 23 rfl rfl)
theorem dX1_becomes_120 : decode cX1_becomes 120 = .ok (.getfield 40, 3) := dk_180 0 40 (dk_at dksX1_becomes_5 0 rfl rfl)
theorem dX1_becomes_123 : decode cX1_becomes 123 = .ok (.putfield 40, 3) := dk_181 0 40 (dk_at dksX1_becomes_5 3 rfl rfl)
theorem dX1_becomes_126 : decode cX1_becomes 126 = .ok (.aload_n 0, 1) := dk_42 (dk_at dksX1_becomes_5 6 rfl rfl)
theorem dX1_becomes_127 : decode cX1_becomes 127 = .ok (.areturn, 1) := dk_176 (dk_at dksX1_becomes_5 7 rfl rfl)
abbrev cX1_everybody : ByteArray := prog_15_method_6_code
def yX1_everybody : MethodName := ⟨RX1, "everybody", "()I"⟩
def dkwX1_everybody_0 : List UInt8 := [4, 42, 180, 0, 54, 120, 4, 100, 172]
abbrev dktX1_everybody_0 : List UInt8 := dkwX1_everybody_0 ++ []
theorem dksX1_everybody_0 : cX1_everybody.data.toList.drop 0 = dktX1_everybody_0 := by decide +kernel
theorem dX1_everybody_0 : decode cX1_everybody 0 = .ok (.iconst 1, 1) := dk_4 (dk_at dksX1_everybody_0 0 rfl rfl)
theorem dX1_everybody_1 : decode cX1_everybody 1 = .ok (.aload_n 0, 1) := dk_42 (dk_at dksX1_everybody_0 1 rfl rfl)
theorem dX1_everybody_2 : decode cX1_everybody 2 = .ok (.getfield 54, 3) := dk_180 0 54 (dk_at dksX1_everybody_0 2 rfl rfl)
theorem dX1_everybody_5 : decode cX1_everybody 5 = .ok (.ishl, 1) := dk_120 (dk_at dksX1_everybody_0 5 rfl rfl)
theorem dX1_everybody_6 : decode cX1_everybody 6 = .ok (.iconst 1, 1) := dk_4 (dk_at dksX1_everybody_0 6 rfl rfl)
theorem dX1_everybody_7 : decode cX1_everybody 7 = .ok (.isub, 1) := dk_100 (dk_at dksX1_everybody_0 7 rfl rfl)
theorem dX1_everybody_8 : decode cX1_everybody 8 = .ok (.ireturn, 1) := dk_172 (dk_at dksX1_everybody_0 8 rfl rfl)
abbrev cX1_things : ByteArray := prog_15_method_10_code
def yX1_things : MethodName := ⟨RX1, "things", "(I)I"⟩
def dkwX1_things_1 : List UInt8 := [132, 3, 1, 167, 255, 233, 28, 172]
abbrev dktX1_things_1 : List UInt8 := dkwX1_things_1 ++ []
def dkwX1_things_0 : List UInt8 := [3, 61, 3, 62, 29, 16, 8, 162, 0, 23, 28, 42, 180, 0, 37, 16, 8, 27, 104, 29, 96, 46, 96, 61]
abbrev dktX1_things_0 : List UInt8 := dkwX1_things_0 ++ dktX1_things_1
theorem dksX1_things_0 : cX1_things.data.toList.drop 0 = dktX1_things_0 := by decide +kernel
theorem dksX1_things_1 : cX1_things.data.toList.drop 24 = dktX1_things_1 := dk_seg dksX1_things_0 24 rfl rfl
theorem dX1_things_0 : decode cX1_things 0 = .ok (.iconst 0, 1) := dk_3 (dk_at dksX1_things_0 0 rfl rfl)
theorem dX1_things_1 : decode cX1_things 1 = .ok (.istore_n 2, 1) := dk_61 (dk_at dksX1_things_0 1 rfl rfl)
theorem dX1_things_2 : decode cX1_things 2 = .ok (.iconst 0, 1) := dk_3 (dk_at dksX1_things_0 2 rfl rfl)
theorem dX1_things_3 : decode cX1_things 3 = .ok (.istore_n 3, 1) := dk_62 (dk_at dksX1_things_0 3 rfl rfl)
theorem dX1_things_4 : decode cX1_things 4 = .ok (.iload_n 3, 1) := dk_29 (dk_at dksX1_things_0 4 rfl rfl)
theorem dX1_things_5 : decode cX1_things 5 = .ok (.bipush 8, 2) := dk_16 8 (dk_at dksX1_things_0 5 rfl rfl)
theorem dX1_things_7 : decode cX1_things 7 = .ok (.if_icmp .ge 23, 3) := dk_162 0 23 (dk_at dksX1_things_0 7 rfl rfl)
theorem dX1_things_10 : decode cX1_things 10 = .ok (.iload_n 2, 1) := dk_28 (dk_at dksX1_things_0 10 rfl rfl)
theorem dX1_things_11 : decode cX1_things 11 = .ok (.aload_n 0, 1) := dk_42 (dk_at dksX1_things_0 11 rfl rfl)
theorem dX1_things_12 : decode cX1_things 12 = .ok (.getfield 37, 3) := dk_180 0 37 (dk_at dksX1_things_0 12 rfl rfl)
theorem dX1_things_15 : decode cX1_things 15 = .ok (.bipush 8, 2) := dk_16 8 (dk_at dksX1_things_0 15 rfl rfl)
theorem dX1_things_17 : decode cX1_things 17 = .ok (.iload_n 1, 1) := dk_27 (dk_at dksX1_things_0 17 rfl rfl)
theorem dX1_things_18 : decode cX1_things 18 = .ok (.imul, 1) := dk_104 (dk_at dksX1_things_0 18 rfl rfl)
theorem dX1_things_19 : decode cX1_things 19 = .ok (.iload_n 3, 1) := dk_29 (dk_at dksX1_things_0 19 rfl rfl)
theorem dX1_things_20 : decode cX1_things 20 = .ok (.iadd, 1) := dk_96 (dk_at dksX1_things_0 20 rfl rfl)
theorem dX1_things_21 : decode cX1_things 21 = .ok (.iaload, 1) := dk_46 (dk_at dksX1_things_0 21 rfl rfl)
theorem dX1_things_22 : decode cX1_things 22 = .ok (.iadd, 1) := dk_96 (dk_at dksX1_things_0 22 rfl rfl)
theorem dX1_things_23 : decode cX1_things 23 = .ok (.istore_n 2, 1) := dk_61 (dk_at dksX1_things_0 23 rfl rfl)
theorem dX1_things_24 : decode cX1_things 24 = .ok (.iinc 3 1, 3) := dk_132 3 1 (dk_at dksX1_things_1 0 rfl rfl)
theorem dX1_things_27 : decode cX1_things 27 = .ok (.goto (-23), 3) := dk_167 255 233 (dk_at dksX1_things_1 3 rfl rfl)
theorem dX1_things_30 : decode cX1_things 30 = .ok (.iload_n 2, 1) := dk_28 (dk_at dksX1_things_1 6 rfl rfl)
theorem dX1_things_31 : decode cX1_things 31 = .ok (.ireturn, 1) := dk_172 (dk_at dksX1_things_1 7 rfl rfl)
abbrev cX1_holds : ByteArray := prog_15_method_9_code
def yX1_holds : MethodName := ⟨RX1, "holds", "(III)V"⟩
def dkwX1_holds_1 : List UInt8 := [29, 96, 184, 0, 85, 184, 0, 91, 79, 177]
abbrev dktX1_holds_1 : List UInt8 := dkwX1_holds_1 ++ []
def dkwX1_holds_0 : List UInt8 := [16, 8, 27, 104, 28, 96, 54, 4, 42, 180, 0, 37, 21, 4, 3, 16, 99, 42, 180, 0, 37, 21, 4, 46]
abbrev dktX1_holds_0 : List UInt8 := dkwX1_holds_0 ++ dktX1_holds_1
theorem dksX1_holds_0 : cX1_holds.data.toList.drop 0 = dktX1_holds_0 := by decide +kernel
theorem dksX1_holds_1 : cX1_holds.data.toList.drop 24 = dktX1_holds_1 := dk_seg dksX1_holds_0 24 rfl rfl
theorem dX1_holds_0 : decode cX1_holds 0 = .ok (.bipush 8, 2) := dk_16 8 (dk_at dksX1_holds_0 0 rfl rfl)
theorem dX1_holds_2 : decode cX1_holds 2 = .ok (.iload_n 1, 1) := dk_27 (dk_at dksX1_holds_0 2 rfl rfl)
theorem dX1_holds_3 : decode cX1_holds 3 = .ok (.imul, 1) := dk_104 (dk_at dksX1_holds_0 3 rfl rfl)
theorem dX1_holds_4 : decode cX1_holds 4 = .ok (.iload_n 2, 1) := dk_28 (dk_at dksX1_holds_0 4 rfl rfl)
theorem dX1_holds_5 : decode cX1_holds 5 = .ok (.iadd, 1) := dk_96 (dk_at dksX1_holds_0 5 rfl rfl)
theorem dX1_holds_6 : decode cX1_holds 6 = .ok (.istore 4, 2) := dk_54 4 (dk_at dksX1_holds_0 6 rfl rfl)
theorem dX1_holds_8 : decode cX1_holds 8 = .ok (.aload_n 0, 1) := dk_42 (dk_at dksX1_holds_0 8 rfl rfl)
theorem dX1_holds_9 : decode cX1_holds 9 = .ok (.getfield 37, 3) := dk_180 0 37 (dk_at dksX1_holds_0 9 rfl rfl)
theorem dX1_holds_12 : decode cX1_holds 12 = .ok (.iload 4, 2) := dk_21 4 (dk_at dksX1_holds_0 12 rfl rfl)
theorem dX1_holds_14 : decode cX1_holds 14 = .ok (.iconst 0, 1) := dk_3 (dk_at dksX1_holds_0 14 rfl rfl)
theorem dX1_holds_15 : decode cX1_holds 15 = .ok (.bipush 99, 2) := dk_16 99 (dk_at dksX1_holds_0 15 rfl rfl)
theorem dX1_holds_17 : decode cX1_holds 17 = .ok (.aload_n 0, 1) := dk_42 (dk_at dksX1_holds_0 17 rfl rfl)
theorem dX1_holds_18 : decode cX1_holds 18 = .ok (.getfield 37, 3) := dk_180 0 37 (dk_at dksX1_holds_0 18 rfl rfl)
theorem dX1_holds_21 : decode cX1_holds 21 = .ok (.iload 4, 2) := dk_21 4 (dk_at dksX1_holds_0 21 rfl rfl)
theorem dX1_holds_23 : decode cX1_holds 23 = .ok (.iaload, 1) := dk_46 (dk_at dksX1_holds_0 23 rfl rfl)
theorem dX1_holds_24 : decode cX1_holds 24 = .ok (.iload_n 3, 1) := dk_29 (dk_at dksX1_holds_1 0 rfl rfl)
theorem dX1_holds_25 : decode cX1_holds 25 = .ok (.iadd, 1) := dk_96 (dk_at dksX1_holds_1 1 rfl rfl)
theorem dX1_holds_26 : decode cX1_holds 26 = .ok (.invokestatic 85, 3) := dk_184 0 85 (dk_at dksX1_holds_1 2 rfl rfl)
theorem dX1_holds_29 : decode cX1_holds 29 = .ok (.invokestatic 91, 3) := dk_184 0 91 (dk_at dksX1_holds_1 5 rfl rfl)
theorem dX1_holds_32 : decode cX1_holds 32 = .ok (.iastore, 1) := dk_79 (dk_at dksX1_holds_1 8 rfl rfl)
theorem dX1_holds_33 : decode cX1_holds 33 = .ok (.return_, 1) := dk_177 (dk_at dksX1_holds_1 9 rfl rfl)
abbrev cX1_draw : ByteArray := prog_15_method_11_code
def yX1_draw : MethodName := ⟨RX1, "draw", "(I)I"⟩
def dkwX1_draw_1 : List UInt8 := [172]
abbrev dktX1_draw_1 : List UInt8 := dkwX1_draw_1 ++ []
def dkwX1_draw_0 : List UInt8 := [42, 42, 180, 0, 40, 18, 94, 104, 17, 48, 57, 96, 181, 0, 40, 42, 180, 0, 40, 16, 16, 124, 27, 112]
abbrev dktX1_draw_0 : List UInt8 := dkwX1_draw_0 ++ dktX1_draw_1
theorem dksX1_draw_0 : cX1_draw.data.toList.drop 0 = dktX1_draw_0 := by decide +kernel
theorem dksX1_draw_1 : cX1_draw.data.toList.drop 24 = dktX1_draw_1 := dk_seg dksX1_draw_0 24 rfl rfl
theorem dX1_draw_0 : decode cX1_draw 0 = .ok (.aload_n 0, 1) := dk_42 (dk_at dksX1_draw_0 0 rfl rfl)
theorem dX1_draw_1 : decode cX1_draw 1 = .ok (.aload_n 0, 1) := dk_42 (dk_at dksX1_draw_0 1 rfl rfl)
theorem dX1_draw_2 : decode cX1_draw 2 = .ok (.getfield 40, 3) := dk_180 0 40 (dk_at dksX1_draw_0 2 rfl rfl)
theorem dX1_draw_5 : decode cX1_draw 5 = .ok (.ldc 94, 2) := dk_18 94 (dk_at dksX1_draw_0 5 rfl rfl)
theorem dX1_draw_7 : decode cX1_draw 7 = .ok (.imul, 1) := dk_104 (dk_at dksX1_draw_0 7 rfl rfl)
theorem dX1_draw_8 : decode cX1_draw 8 = .ok (.sipush 12345, 3) := dk_17 48 57 (dk_at dksX1_draw_0 8 rfl rfl)
theorem dX1_draw_11 : decode cX1_draw 11 = .ok (.iadd, 1) := dk_96 (dk_at dksX1_draw_0 11 rfl rfl)
theorem dX1_draw_12 : decode cX1_draw 12 = .ok (.putfield 40, 3) := dk_181 0 40 (dk_at dksX1_draw_0 12 rfl rfl)
theorem dX1_draw_15 : decode cX1_draw 15 = .ok (.aload_n 0, 1) := dk_42 (dk_at dksX1_draw_0 15 rfl rfl)
theorem dX1_draw_16 : decode cX1_draw 16 = .ok (.getfield 40, 3) := dk_180 0 40 (dk_at dksX1_draw_0 16 rfl rfl)
theorem dX1_draw_19 : decode cX1_draw 19 = .ok (.bipush 16, 2) := dk_16 16 (dk_at dksX1_draw_0 19 rfl rfl)
theorem dX1_draw_21 : decode cX1_draw 21 = .ok (.iushr, 1) := dk_124 (dk_at dksX1_draw_0 21 rfl rfl)
theorem dX1_draw_22 : decode cX1_draw 22 = .ok (.iload_n 1, 1) := dk_27 (dk_at dksX1_draw_0 22 rfl rfl)
theorem dX1_draw_23 : decode cX1_draw 23 = .ok (.irem, 1) := dk_112 (dk_at dksX1_draw_0 23 rfl rfl)
theorem dX1_draw_24 : decode cX1_draw 24 = .ok (.ireturn, 1) := dk_172 (dk_at dksX1_draw_1 0 rfl rfl)
theorem q84 : (Jvm.Cond.initialized "SeenInOrderOfAge$Window") ∈ lw_all := lw_g (lw_at lw_m1 2 rfl) rfl
theorem q128 : (Jvm.Cond.instantiable "SeenInOrderOfAge$Window" (10 : Nat)) ∈ lw_all := lw_g (lw_at lw_m1 46 rfl) rfl
theorem q130 : (Jvm.Cond.instanceMethod ({ cls := "SeenInOrderOfAge$Window", name := "<init>", desc := "()V" } : Jvm.MethodName)) ∈ lw_all := lw_g (lw_at lw_m1 48 rfl) rfl
theorem q131 : (Jvm.Cond.code ({ cls := "SeenInOrderOfAge$Window", name := "<init>", desc := "()V" } : Jvm.MethodName) prog_15_method_1_code (1 : Nat) (Option.none : Option Jvm.ClassFile.FieldType)) ∈ lw_all := lw_g (lw_at lw_m1 49 rfl) rfl
theorem q132 : (Jvm.Cond.methodLink "SeenInOrderOfAge$Window" (3 : Nat) ({ cls := "java/lang/Object", name := "<init>", desc := "()V" } : Jvm.MethodName)) ∈ lw_all := lw_g (lw_at lw_m1 50 rfl) rfl
theorem q133 : (Jvm.Cond.classLink "SeenInOrderOfAge$Window" (9 : Nat) "SeenInOrderOfAge$Panes") ∈ lw_all := lw_g (lw_at lw_m1 51 rfl) rfl
theorem q135 : (Jvm.Cond.methodLink "SeenInOrderOfAge$Window" (11 : Nat) ({ cls := "SeenInOrderOfAge$Panes", name := "<init>", desc := "()V" } : Jvm.MethodName)) ∈ lw_all := lw_g (lw_at lw_m1 53 rfl) rfl
theorem q155 : (Jvm.Cond.classLink "SeenInOrderOfAge$Window" (18 : Nat) "SeenInOrderOfAge$Looker") ∈ lw_all := lw_g (lw_at lw_m1 73 rfl) rfl
theorem q157 : (Jvm.Cond.fieldLink "SeenInOrderOfAge$Window" (12 : Nat) "SeenInOrderOfAge$Window" "panes" "LSeenInOrderOfAge$Panes;") ∈ lw_all := lw_g (lw_at lw_m1 75 rfl) rfl
theorem q161 : (Jvm.Cond.fieldLink "SeenInOrderOfAge$Window" (20 : Nat) "SeenInOrderOfAge$Window" "looker" "[LSeenInOrderOfAge$Looker;") ∈ lw_all := lw_g (lw_at lw_m1 79 rfl) rfl
theorem q164 : (Jvm.Cond.fieldLink "SeenInOrderOfAge$Window" (24 : Nat) "SeenInOrderOfAge$Window" "age" "[I") ∈ lw_all := lw_g (lw_at lw_m1 82 rfl) rfl
theorem q166 : (Jvm.Cond.fieldLink "SeenInOrderOfAge$Window" (28 : Nat) "SeenInOrderOfAge$Window" "likes" "[I") ∈ lw_all := lw_g (lw_at lw_m1 84 rfl) rfl
theorem q169 : (Jvm.Cond.fieldLink "SeenInOrderOfAge$Window" (31 : Nat) "SeenInOrderOfAge$Window" "comes" "[I") ∈ lw_all := lw_g (lw_at lw_m1 87 rfl) rfl
theorem q172 : (Jvm.Cond.fieldLink "SeenInOrderOfAge$Window" (34 : Nat) "SeenInOrderOfAge$Window" "shine" "[I") ∈ lw_all := lw_g (lw_at lw_m1 90 rfl) rfl
theorem q175 : (Jvm.Cond.fieldLink "SeenInOrderOfAge$Window" (37 : Nat) "SeenInOrderOfAge$Window" "holds" "[I") ∈ lw_all := lw_g (lw_at lw_m1 93 rfl) rfl
theorem q177 : (Jvm.Cond.fieldLink "SeenInOrderOfAge$Window" (54 : Nat) "SeenInOrderOfAge$Window" "lookers" "I") ∈ lw_all := lw_g (lw_at lw_m1 95 rfl) rfl
theorem q180 : (Jvm.Cond.fieldLink "SeenInOrderOfAge$Window" (57 : Nat) "SeenInOrderOfAge$Window" "evenings" "I") ∈ lw_all := lw_g (lw_at lw_m1 98 rfl) rfl
theorem q182 : (Jvm.Cond.fieldLink "SeenInOrderOfAge$Window" (40 : Nat) "SeenInOrderOfAge$Window" "seed" "I") ∈ lw_all := lw_g (lw_at lw_m1 100 rfl) rfl
theorem q184 : (Jvm.Cond.laysFinal "SeenInOrderOfAge$Window" "SeenInOrderOfAge$Window" "panes" "LSeenInOrderOfAge$Panes;") ∈ lw_all := lw_g (lw_at lw_m1 102 rfl) rfl
theorem q185 : (Jvm.Cond.soleField "SeenInOrderOfAge$Window" "panes") ∈ lw_all := lw_g (lw_at lw_m1 103 rfl) rfl
theorem q186 : (Jvm.Cond.laysFinal "SeenInOrderOfAge$Window" "SeenInOrderOfAge$Window" "looker" "[LSeenInOrderOfAge$Looker;") ∈ lw_all := lw_g (lw_at lw_m1 104 rfl) rfl
theorem q187 : (Jvm.Cond.soleField "SeenInOrderOfAge$Window" "looker") ∈ lw_all := lw_g (lw_at lw_m1 105 rfl) rfl
theorem q188 : (Jvm.Cond.laysFinal "SeenInOrderOfAge$Window" "SeenInOrderOfAge$Window" "age" "[I") ∈ lw_all := lw_g (lw_at lw_m1 106 rfl) rfl
theorem q189 : (Jvm.Cond.soleField "SeenInOrderOfAge$Window" "age") ∈ lw_all := lw_g (lw_at lw_m1 107 rfl) rfl
theorem q190 : (Jvm.Cond.laysFinal "SeenInOrderOfAge$Window" "SeenInOrderOfAge$Window" "likes" "[I") ∈ lw_all := lw_g (lw_at lw_m1 108 rfl) rfl
theorem q191 : (Jvm.Cond.soleField "SeenInOrderOfAge$Window" "likes") ∈ lw_all := lw_g (lw_at lw_m1 109 rfl) rfl
theorem q192 : (Jvm.Cond.laysFinal "SeenInOrderOfAge$Window" "SeenInOrderOfAge$Window" "comes" "[I") ∈ lw_all := lw_g (lw_at lw_m1 110 rfl) rfl
theorem q193 : (Jvm.Cond.soleField "SeenInOrderOfAge$Window" "comes") ∈ lw_all := lw_g (lw_at lw_m1 111 rfl) rfl
theorem q194 : (Jvm.Cond.laysFinal "SeenInOrderOfAge$Window" "SeenInOrderOfAge$Window" "shine" "[I") ∈ lw_all := lw_g (lw_at lw_m1 112 rfl) rfl
theorem q195 : (Jvm.Cond.soleField "SeenInOrderOfAge$Window" "shine") ∈ lw_all := lw_g (lw_at lw_m1 113 rfl) rfl
theorem q196 : (Jvm.Cond.laysFinal "SeenInOrderOfAge$Window" "SeenInOrderOfAge$Window" "holds" "[I") ∈ lw_all := lw_g (lw_at lw_m1 114 rfl) rfl
theorem q197 : (Jvm.Cond.soleField "SeenInOrderOfAge$Window" "holds") ∈ lw_all := lw_g (lw_at lw_m1 115 rfl) rfl
theorem q198 : (Jvm.Cond.lays "SeenInOrderOfAge$Window" "SeenInOrderOfAge$Window" "lookers" "I") ∈ lw_all := lw_g (lw_at lw_m1 116 rfl) rfl
theorem q199 : (Jvm.Cond.soleField "SeenInOrderOfAge$Window" "lookers") ∈ lw_all := lw_g (lw_at lw_m1 117 rfl) rfl
theorem q200 : (Jvm.Cond.lays "SeenInOrderOfAge$Window" "SeenInOrderOfAge$Window" "evenings" "I") ∈ lw_all := lw_g (lw_at lw_m1 118 rfl) rfl
theorem q201 : (Jvm.Cond.soleField "SeenInOrderOfAge$Window" "evenings") ∈ lw_all := lw_g (lw_at lw_m1 119 rfl) rfl
theorem q202 : (Jvm.Cond.lays "SeenInOrderOfAge$Window" "SeenInOrderOfAge$Window" "seed" "I") ∈ lw_all := lw_g (lw_at lw_m1 120 rfl) rfl
theorem q203 : (Jvm.Cond.soleField "SeenInOrderOfAge$Window" "seed") ∈ lw_all := lw_g (lw_at lw_m1 121 rfl) rfl
theorem q204 : (Jvm.Cond.superclass "SeenInOrderOfAge$Window" "java/lang/Object") ∈ lw_all := lw_g (lw_at lw_m1 122 rfl) rfl
theorem q520 : (Jvm.Cond.instanceMethod ({ cls := "SeenInOrderOfAge$Window", name := "isLooker", desc := "(I)Z" } : Jvm.MethodName)) ∈ lw_all := lw_g (lw_at lw_m2 198 rfl) rfl
theorem q521 : (Jvm.Cond.selects "SeenInOrderOfAge$Window" ({ cls := "SeenInOrderOfAge$Window", name := "isLooker", desc := "(I)Z" } : Jvm.MethodName) ({ cls := "SeenInOrderOfAge$Window", name := "isLooker", desc := "(I)Z" } : Jvm.MethodName)) ∈ lw_all := lw_g (lw_at lw_m2 199 rfl) rfl
theorem q522 : (Jvm.Cond.code ({ cls := "SeenInOrderOfAge$Window", name := "isLooker", desc := "(I)Z" } : Jvm.MethodName) prog_15_method_5_code (2 : Nat) (Option.some Jvm.ClassFile.FieldType.boolean)) ∈ lw_all := lw_g (lw_at lw_m2 200 rfl) rfl
theorem q523 : (Jvm.Cond.methodLinkNest "SeenInOrderOfAge$Window" (74 : Nat) ({ cls := "SeenInOrderOfAge", name := "isIn", desc := "(III)Z" } : Jvm.MethodName) "SeenInOrderOfAge") ∈ lw_tbl := lw_at lw_m2 201 rfl
theorem q562 : (Jvm.Cond.instanceMethod ({ cls := "SeenInOrderOfAge$Window", name := "next", desc := "(I)I" } : Jvm.MethodName)) ∈ lw_all := lw_g (lw_at lw_m3 0 rfl) rfl
theorem q563 : (Jvm.Cond.selects "SeenInOrderOfAge$Window" ({ cls := "SeenInOrderOfAge$Window", name := "next", desc := "(I)I" } : Jvm.MethodName) ({ cls := "SeenInOrderOfAge$Window", name := "next", desc := "(I)I" } : Jvm.MethodName)) ∈ lw_all := lw_g (lw_at lw_m3 1 rfl) rfl
theorem q564 : (Jvm.Cond.code ({ cls := "SeenInOrderOfAge$Window", name := "next", desc := "(I)I" } : Jvm.MethodName) prog_15_method_8_code (4 : Nat) (Option.some Jvm.ClassFile.FieldType.int)) ∈ lw_all := lw_g (lw_at lw_m3 2 rfl) rfl
theorem q565 : (Jvm.Cond.methodLinkNest "SeenInOrderOfAge$Window" (81 : Nat) ({ cls := "SeenInOrderOfAge", name := "has", desc := "(II)Z" } : Jvm.MethodName) "SeenInOrderOfAge") ∈ lw_tbl := lw_at lw_m3 3 rfl
theorem q573 : (Jvm.Cond.instanceMethod ({ cls := "SeenInOrderOfAge$Window", name := "liked", desc := "(I)I" } : Jvm.MethodName)) ∈ lw_all := lw_g (lw_at lw_m3 11 rfl) rfl
theorem q574 : (Jvm.Cond.selects "SeenInOrderOfAge$Window" ({ cls := "SeenInOrderOfAge$Window", name := "liked", desc := "(I)I" } : Jvm.MethodName) ({ cls := "SeenInOrderOfAge$Window", name := "liked", desc := "(I)I" } : Jvm.MethodName)) ∈ lw_all := lw_g (lw_at lw_m3 12 rfl) rfl
theorem q575 : (Jvm.Cond.code ({ cls := "SeenInOrderOfAge$Window", name := "liked", desc := "(I)I" } : Jvm.MethodName) prog_15_method_7_code (2 : Nat) (Option.some Jvm.ClassFile.FieldType.int)) ∈ lw_all := lw_g (lw_at lw_m3 13 rfl) rfl
theorem q662 : (Jvm.Cond.instanceMethod ({ cls := "SeenInOrderOfAge$Window", name := "adds", desc := "(III)I" } : Jvm.MethodName)) ∈ lw_all := lw_g (lw_at lw_m3 100 rfl) rfl
theorem q663 : (Jvm.Cond.selects "SeenInOrderOfAge$Window" ({ cls := "SeenInOrderOfAge$Window", name := "adds", desc := "(III)I" } : Jvm.MethodName) ({ cls := "SeenInOrderOfAge$Window", name := "adds", desc := "(III)I" } : Jvm.MethodName)) ∈ lw_all := lw_g (lw_at lw_m3 101 rfl) rfl
theorem q664 : (Jvm.Cond.code ({ cls := "SeenInOrderOfAge$Window", name := "adds", desc := "(III)I" } : Jvm.MethodName) prog_15_method_4_code (4 : Nat) (Option.some Jvm.ClassFile.FieldType.int)) ∈ lw_all := lw_g (lw_at lw_m3 102 rfl) rfl
theorem q665 : (Jvm.Cond.methodLinkNest "SeenInOrderOfAge$Window" (64 : Nat) ({ cls := "SeenInOrderOfAge", name := "made", desc := "(III)LSeenInOrderOfAge$Looker;" } : Jvm.MethodName) "SeenInOrderOfAge") ∈ lw_tbl := lw_at lw_m3 103 rfl
theorem q679 : (Jvm.Cond.fieldLink "SeenInOrderOfAge$Window" (78 : Nat) "SeenInOrderOfAge$Looker" "a" "I") ∈ lw_all := lw_g (lw_at lw_m3 117 rfl) rfl
theorem q723 : (Jvm.Cond.methodLink "SeenInOrderOfAge$Window" (68 : Nat) ({ cls := "java/util/Arrays", name := "fill", desc := "([IIII)V" } : Jvm.MethodName)) ∈ lw_all := lw_g (lw_at lw_m3 161 rfl) rfl
theorem q995 : (Jvm.Cond.instanceMethod ({ cls := "SeenInOrderOfAge$Window", name := "copied", desc := "()LSeenInOrderOfAge$Window;" } : Jvm.MethodName)) ∈ lw_all := lw_g (lw_at lw_m4 193 rfl) rfl
theorem q996 : (Jvm.Cond.selects "SeenInOrderOfAge$Window" ({ cls := "SeenInOrderOfAge$Window", name := "copied", desc := "()LSeenInOrderOfAge$Window;" } : Jvm.MethodName) ({ cls := "SeenInOrderOfAge$Window", name := "copied", desc := "()LSeenInOrderOfAge$Window;" } : Jvm.MethodName)) ∈ lw_all := lw_g (lw_at lw_m4 194 rfl) rfl
theorem q997 : (Jvm.Cond.code ({ cls := "SeenInOrderOfAge$Window", name := "copied", desc := "()LSeenInOrderOfAge$Window;" } : Jvm.MethodName) prog_15_method_3_code (1 : Nat) (Option.some (Jvm.ClassFile.FieldType.object "SeenInOrderOfAge$Window"))) ∈ lw_all := lw_g (lw_at lw_m4 195 rfl) rfl
theorem q998 : (Jvm.Cond.classLink "SeenInOrderOfAge$Window" (13 : Nat) "SeenInOrderOfAge$Window") ∈ lw_all := lw_g (lw_at lw_m4 196 rfl) rfl
theorem q999 : (Jvm.Cond.methodLink "SeenInOrderOfAge$Window" (60 : Nat) ({ cls := "SeenInOrderOfAge$Window", name := "<init>", desc := "()V" } : Jvm.MethodName)) ∈ lw_all := lw_g (lw_at lw_m4 197 rfl) rfl
theorem q1000 : (Jvm.Cond.methodLink "SeenInOrderOfAge$Window" (61 : Nat) ({ cls := "SeenInOrderOfAge$Window", name := "becomes", desc := "(LSeenInOrderOfAge$Window;)LSeenInOrderOfAge$Window;" } : Jvm.MethodName)) ∈ lw_all := lw_g (lw_at lw_m4 198 rfl) rfl
theorem q1001 : (Jvm.Cond.instanceMethod ({ cls := "SeenInOrderOfAge$Window", name := "becomes", desc := "(LSeenInOrderOfAge$Window;)LSeenInOrderOfAge$Window;" } : Jvm.MethodName)) ∈ lw_all := lw_g (lw_at lw_m4 199 rfl) rfl
theorem q1002 : (Jvm.Cond.selects "SeenInOrderOfAge$Window" ({ cls := "SeenInOrderOfAge$Window", name := "becomes", desc := "(LSeenInOrderOfAge$Window;)LSeenInOrderOfAge$Window;" } : Jvm.MethodName) ({ cls := "SeenInOrderOfAge$Window", name := "becomes", desc := "(LSeenInOrderOfAge$Window;)LSeenInOrderOfAge$Window;" } : Jvm.MethodName)) ∈ lw_all := lw_g (lw_at lw_m4 200 rfl) rfl
theorem q1003 : (Jvm.Cond.code ({ cls := "SeenInOrderOfAge$Window", name := "becomes", desc := "(LSeenInOrderOfAge$Window;)LSeenInOrderOfAge$Window;" } : Jvm.MethodName) prog_15_method_2_code (2 : Nat) (Option.some (Jvm.ClassFile.FieldType.object "SeenInOrderOfAge$Window"))) ∈ lw_all := lw_g (lw_at lw_m4 201 rfl) rfl
theorem q1004 : (Jvm.Cond.methodLink "SeenInOrderOfAge$Window" (44 : Nat) ({ cls := "SeenInOrderOfAge$Panes", name := "becomes", desc := "(LSeenInOrderOfAge$Panes;)LSeenInOrderOfAge$Panes;" } : Jvm.MethodName)) ∈ lw_all := lw_g (lw_at lw_m4 202 rfl) rfl
theorem q1005 : (Jvm.Cond.methodLink "SeenInOrderOfAge$Window" (48 : Nat) ({ cls := "java/lang/System", name := "arraycopy", desc := "(Ljava/lang/Object;ILjava/lang/Object;II)V" } : Jvm.MethodName)) ∈ lw_all := lw_g (lw_at lw_m4 203 rfl) rfl
theorem q1224 : (Jvm.Cond.instanceMethod ({ cls := "SeenInOrderOfAge$Window", name := "everybody", desc := "()I" } : Jvm.MethodName)) ∈ lw_all := lw_g (lw_at lw_m5 182 rfl) rfl
theorem q1225 : (Jvm.Cond.selects "SeenInOrderOfAge$Window" ({ cls := "SeenInOrderOfAge$Window", name := "everybody", desc := "()I" } : Jvm.MethodName) ({ cls := "SeenInOrderOfAge$Window", name := "everybody", desc := "()I" } : Jvm.MethodName)) ∈ lw_all := lw_g (lw_at lw_m5 183 rfl) rfl
theorem q1226 : (Jvm.Cond.code ({ cls := "SeenInOrderOfAge$Window", name := "everybody", desc := "()I" } : Jvm.MethodName) prog_15_method_6_code (1 : Nat) (Option.some Jvm.ClassFile.FieldType.int)) ∈ lw_all := lw_g (lw_at lw_m5 184 rfl) rfl
theorem q1410 : (Jvm.Cond.instanceMethod ({ cls := "SeenInOrderOfAge$Window", name := "things", desc := "(I)I" } : Jvm.MethodName)) ∈ lw_all := lw_g (lw_at lw_m6 128 rfl) rfl
theorem q1411 : (Jvm.Cond.selects "SeenInOrderOfAge$Window" ({ cls := "SeenInOrderOfAge$Window", name := "things", desc := "(I)I" } : Jvm.MethodName) ({ cls := "SeenInOrderOfAge$Window", name := "things", desc := "(I)I" } : Jvm.MethodName)) ∈ lw_all := lw_g (lw_at lw_m6 129 rfl) rfl
theorem q1412 : (Jvm.Cond.code ({ cls := "SeenInOrderOfAge$Window", name := "things", desc := "(I)I" } : Jvm.MethodName) prog_15_method_10_code (4 : Nat) (Option.some Jvm.ClassFile.FieldType.int)) ∈ lw_all := lw_g (lw_at lw_m6 130 rfl) rfl
theorem q1467 : (Jvm.Cond.instanceMethod ({ cls := "SeenInOrderOfAge$Window", name := "holds", desc := "(III)V" } : Jvm.MethodName)) ∈ lw_all := lw_g (lw_at lw_m6 185 rfl) rfl
theorem q1468 : (Jvm.Cond.selects "SeenInOrderOfAge$Window" ({ cls := "SeenInOrderOfAge$Window", name := "holds", desc := "(III)V" } : Jvm.MethodName) ({ cls := "SeenInOrderOfAge$Window", name := "holds", desc := "(III)V" } : Jvm.MethodName)) ∈ lw_all := lw_g (lw_at lw_m6 186 rfl) rfl
theorem q1469 : (Jvm.Cond.code ({ cls := "SeenInOrderOfAge$Window", name := "holds", desc := "(III)V" } : Jvm.MethodName) prog_15_method_9_code (5 : Nat) (Option.none : Option Jvm.ClassFile.FieldType)) ∈ lw_all := lw_g (lw_at lw_m6 187 rfl) rfl
theorem q1470 : (Jvm.Cond.methodLink "SeenInOrderOfAge$Window" (85 : Nat) ({ cls := "java/lang/Math", name := "min", desc := "(II)I" } : Jvm.MethodName)) ∈ lw_all := lw_g (lw_at lw_m6 188 rfl) rfl
theorem q1471 : (Jvm.Cond.methodLink "SeenInOrderOfAge$Window" (91 : Nat) ({ cls := "java/lang/Math", name := "max", desc := "(II)I" } : Jvm.MethodName)) ∈ lw_all := lw_g (lw_at lw_m6 189 rfl) rfl
theorem q1485 : (Jvm.Cond.instanceMethod ({ cls := "SeenInOrderOfAge$Window", name := "draw", desc := "(I)I" } : Jvm.MethodName)) ∈ lw_all := lw_g (lw_at lw_m6 203 rfl) rfl
theorem q1486 : (Jvm.Cond.selects "SeenInOrderOfAge$Window" ({ cls := "SeenInOrderOfAge$Window", name := "draw", desc := "(I)I" } : Jvm.MethodName) ({ cls := "SeenInOrderOfAge$Window", name := "draw", desc := "(I)I" } : Jvm.MethodName)) ∈ lw_all := lw_g (lw_at lw_m6 204 rfl) rfl
theorem q1487 : (Jvm.Cond.code ({ cls := "SeenInOrderOfAge$Window", name := "draw", desc := "(I)I" } : Jvm.MethodName) prog_15_method_11_code (2 : Nat) (Option.some Jvm.ClassFile.FieldType.int)) ∈ lw_all := lw_g (lw_at lw_m6 205 rfl) rfl
theorem q1488 : (Jvm.Cond.constant "SeenInOrderOfAge$Window" (94 : Nat) (1103515245 : Int32)) ∈ lw_all := lw_g (lw_at lw_m6 206 rfl) rfl

/-! X2 -/
abbrev cX2_init : ByteArray := prog_10_method_1_code
def yX2_init : MethodName := ⟨RX2, "<init>", "()V"⟩
def dkwX2_init_0 : List UInt8 := [42, 183, 0, 3, 42, 16, 12, 188, 10, 181, 0, 9, 42, 180, 0, 9, 2, 184, 0, 15, 177]
abbrev dktX2_init_0 : List UInt8 := dkwX2_init_0 ++ []
theorem dksX2_init_0 : cX2_init.data.toList.drop 0 = dktX2_init_0 := by decide +kernel
theorem dX2_init_0 : decode cX2_init 0 = .ok (.aload_n 0, 1) := dk_42 (dk_at dksX2_init_0 0 rfl rfl)
theorem dX2_init_1 : decode cX2_init 1 = .ok (.invokespecial 3, 3) := dk_183 0 3 (dk_at dksX2_init_0 1 rfl rfl)
theorem dX2_init_4 : decode cX2_init 4 = .ok (.aload_n 0, 1) := dk_42 (dk_at dksX2_init_0 4 rfl rfl)
theorem dX2_init_5 : decode cX2_init 5 = .ok (.bipush 12, 2) := dk_16 12 (dk_at dksX2_init_0 5 rfl rfl)
theorem dX2_init_7 : decode cX2_init 7 = .ok (.newarray .int, 2) := dk_188_10 (dk_at dksX2_init_0 7 rfl rfl)
theorem dX2_init_9 : decode cX2_init 9 = .ok (.putfield 9, 3) := dk_181 0 9 (dk_at dksX2_init_0 9 rfl rfl)
theorem dX2_init_12 : decode cX2_init 12 = .ok (.aload_n 0, 1) := dk_42 (dk_at dksX2_init_0 12 rfl rfl)
theorem dX2_init_13 : decode cX2_init 13 = .ok (.getfield 9, 3) := dk_180 0 9 (dk_at dksX2_init_0 13 rfl rfl)
theorem dX2_init_16 : decode cX2_init 16 = .ok (.iconst (-1), 1) := dk_2 (dk_at dksX2_init_0 16 rfl rfl)
theorem dX2_init_17 : decode cX2_init 17 = .ok (.invokestatic 15, 3) := dk_184 0 15 (dk_at dksX2_init_0 17 rfl rfl)
theorem dX2_init_20 : decode cX2_init 20 = .ok (.return_, 1) := dk_177 (dk_at dksX2_init_0 20 rfl rfl)
abbrev cX2_becomes : ByteArray := prog_10_method_2_code
def yX2_becomes : MethodName := ⟨RX2, "becomes", "(LSeenInOrderOfAge$Panes;)LSeenInOrderOfAge$Panes;"⟩
def dkwX2_becomes_0 : List UInt8 := [43, 180, 0, 9, 3, 42, 180, 0, 9, 3, 16, 12, 184, 0, 21, 42, 176]
abbrev dktX2_becomes_0 : List UInt8 := dkwX2_becomes_0 ++ []
theorem dksX2_becomes_0 : cX2_becomes.data.toList.drop 0 = dktX2_becomes_0 := by decide +kernel
theorem dX2_becomes_0 : decode cX2_becomes 0 = .ok (.aload_n 1, 1) := dk_43 (dk_at dksX2_becomes_0 0 rfl rfl)
theorem dX2_becomes_1 : decode cX2_becomes 1 = .ok (.getfield 9, 3) := dk_180 0 9 (dk_at dksX2_becomes_0 1 rfl rfl)
theorem dX2_becomes_4 : decode cX2_becomes 4 = .ok (.iconst 0, 1) := dk_3 (dk_at dksX2_becomes_0 4 rfl rfl)
theorem dX2_becomes_5 : decode cX2_becomes 5 = .ok (.aload_n 0, 1) := dk_42 (dk_at dksX2_becomes_0 5 rfl rfl)
theorem dX2_becomes_6 : decode cX2_becomes 6 = .ok (.getfield 9, 3) := dk_180 0 9 (dk_at dksX2_becomes_0 6 rfl rfl)
theorem dX2_becomes_9 : decode cX2_becomes 9 = .ok (.iconst 0, 1) := dk_3 (dk_at dksX2_becomes_0 9 rfl rfl)
theorem dX2_becomes_10 : decode cX2_becomes 10 = .ok (.bipush 12, 2) := dk_16 12 (dk_at dksX2_becomes_0 10 rfl rfl)
theorem dX2_becomes_12 : decode cX2_becomes 12 = .ok (.invokestatic 21, 3) := dk_184 0 21 (dk_at dksX2_becomes_0 12 rfl rfl)
theorem dX2_becomes_15 : decode cX2_becomes 15 = .ok (.aload_n 0, 1) := dk_42 (dk_at dksX2_becomes_0 15 rfl rfl)
theorem dX2_becomes_16 : decode cX2_becomes 16 = .ok (.areturn, 1) := dk_176 (dk_at dksX2_becomes_0 16 rfl rfl)
abbrev cX2_lastOf : ByteArray := prog_10_method_4_code
def yX2_lastOf : MethodName := ⟨RX2, "lastOf", "(I)I"⟩
def dkwX2_lastOf_1 : List UInt8 := [184, 0, 27, 153, 0, 5, 28, 172, 132, 2, 255, 167, 255, 224, 2, 172]
abbrev dktX2_lastOf_1 : List UInt8 := dkwX2_lastOf_1 ++ []
def dkwX2_lastOf_0 : List UInt8 := [16, 11, 61, 28, 155, 0, 34, 42, 180, 0, 9, 28, 46, 2, 159, 0, 18, 27, 42, 180, 0, 9, 28, 46]
abbrev dktX2_lastOf_0 : List UInt8 := dkwX2_lastOf_0 ++ dktX2_lastOf_1
theorem dksX2_lastOf_0 : cX2_lastOf.data.toList.drop 0 = dktX2_lastOf_0 := by decide +kernel
theorem dksX2_lastOf_1 : cX2_lastOf.data.toList.drop 24 = dktX2_lastOf_1 := dk_seg dksX2_lastOf_0 24 rfl rfl
theorem dX2_lastOf_0 : decode cX2_lastOf 0 = .ok (.bipush 11, 2) := dk_16 11 (dk_at dksX2_lastOf_0 0 rfl rfl)
theorem dX2_lastOf_2 : decode cX2_lastOf 2 = .ok (.istore_n 2, 1) := dk_61 (dk_at dksX2_lastOf_0 2 rfl rfl)
theorem dX2_lastOf_3 : decode cX2_lastOf 3 = .ok (.iload_n 2, 1) := dk_28 (dk_at dksX2_lastOf_0 3 rfl rfl)
theorem dX2_lastOf_4 : decode cX2_lastOf 4 = .ok (.ifCond .lt 34, 3) := dk_155 0 34 (dk_at dksX2_lastOf_0 4 rfl rfl)
theorem dX2_lastOf_7 : decode cX2_lastOf 7 = .ok (.aload_n 0, 1) := dk_42 (dk_at dksX2_lastOf_0 7 rfl rfl)
theorem dX2_lastOf_8 : decode cX2_lastOf 8 = .ok (.getfield 9, 3) := dk_180 0 9 (dk_at dksX2_lastOf_0 8 rfl rfl)
theorem dX2_lastOf_11 : decode cX2_lastOf 11 = .ok (.iload_n 2, 1) := dk_28 (dk_at dksX2_lastOf_0 11 rfl rfl)
theorem dX2_lastOf_12 : decode cX2_lastOf 12 = .ok (.iaload, 1) := dk_46 (dk_at dksX2_lastOf_0 12 rfl rfl)
theorem dX2_lastOf_13 : decode cX2_lastOf 13 = .ok (.iconst (-1), 1) := dk_2 (dk_at dksX2_lastOf_0 13 rfl rfl)
theorem dX2_lastOf_14 : decode cX2_lastOf 14 = .ok (.if_icmp .eq 18, 3) := dk_159 0 18 (dk_at dksX2_lastOf_0 14 rfl rfl)
theorem dX2_lastOf_17 : decode cX2_lastOf 17 = .ok (.iload_n 1, 1) := dk_27 (dk_at dksX2_lastOf_0 17 rfl rfl)
theorem dX2_lastOf_18 : decode cX2_lastOf 18 = .ok (.aload_n 0, 1) := dk_42 (dk_at dksX2_lastOf_0 18 rfl rfl)
theorem dX2_lastOf_19 : decode cX2_lastOf 19 = .ok (.getfield 9, 3) := dk_180 0 9 (dk_at dksX2_lastOf_0 19 rfl rfl)
theorem dX2_lastOf_22 : decode cX2_lastOf 22 = .ok (.iload_n 2, 1) := dk_28 (dk_at dksX2_lastOf_0 22 rfl rfl)
theorem dX2_lastOf_23 : decode cX2_lastOf 23 = .ok (.iaload, 1) := dk_46 (dk_at dksX2_lastOf_0 23 rfl rfl)
theorem dX2_lastOf_24 : decode cX2_lastOf 24 = .ok (.invokestatic 27, 3) := dk_184 0 27 (dk_at dksX2_lastOf_1 0 rfl rfl)
theorem dX2_lastOf_27 : decode cX2_lastOf 27 = .ok (.ifCond .eq 5, 3) := dk_153 0 5 (dk_at dksX2_lastOf_1 3 rfl rfl)
theorem dX2_lastOf_30 : decode cX2_lastOf 30 = .ok (.iload_n 2, 1) := dk_28 (dk_at dksX2_lastOf_1 6 rfl rfl)
theorem dX2_lastOf_31 : decode cX2_lastOf 31 = .ok (.ireturn, 1) := dk_172 (dk_at dksX2_lastOf_1 7 rfl rfl)
theorem dX2_lastOf_32 : decode cX2_lastOf 32 = .ok (.iinc 2 (-1), 3) := dk_132 2 255 (dk_at dksX2_lastOf_1 8 rfl rfl)
theorem dX2_lastOf_35 : decode cX2_lastOf 35 = .ok (.goto (-32), 3) := dk_167 255 224 (dk_at dksX2_lastOf_1 11 rfl rfl)
theorem dX2_lastOf_38 : decode cX2_lastOf 38 = .ok (.iconst (-1), 1) := dk_2 (dk_at dksX2_lastOf_1 14 rfl rfl)
theorem dX2_lastOf_39 : decode cX2_lastOf 39 = .ok (.ireturn, 1) := dk_172 (dk_at dksX2_lastOf_1 15 rfl rfl)
abbrev cX2_many : ByteArray := prog_10_method_5_code
def yX2_many : MethodName := ⟨RX2, "many", "(I)I"⟩
def dkwX2_many_2 : List UInt8 := [172]
abbrev dktX2_many_2 : List UInt8 := dkwX2_many_2 ++ []
def dkwX2_many_1 : List UInt8 := [46, 54, 6, 28, 21, 6, 27, 160, 0, 7, 4, 167, 0, 4, 3, 96, 61, 132, 5, 1, 167, 255, 226, 28]
abbrev dktX2_many_1 : List UInt8 := dkwX2_many_1 ++ dktX2_many_2
def dkwX2_many_0 : List UInt8 := [3, 61, 42, 180, 0, 9, 78, 45, 190, 54, 4, 3, 54, 5, 21, 5, 21, 4, 162, 0, 29, 45, 21, 5]
abbrev dktX2_many_0 : List UInt8 := dkwX2_many_0 ++ dktX2_many_1
theorem dksX2_many_0 : cX2_many.data.toList.drop 0 = dktX2_many_0 := by decide +kernel
theorem dksX2_many_1 : cX2_many.data.toList.drop 24 = dktX2_many_1 := dk_seg dksX2_many_0 24 rfl rfl
theorem dksX2_many_2 : cX2_many.data.toList.drop 48 = dktX2_many_2 := dk_seg dksX2_many_1 24 rfl rfl
theorem dX2_many_0 : decode cX2_many 0 = .ok (.iconst 0, 1) := dk_3 (dk_at dksX2_many_0 0 rfl rfl)
theorem dX2_many_1 : decode cX2_many 1 = .ok (.istore_n 2, 1) := dk_61 (dk_at dksX2_many_0 1 rfl rfl)
theorem dX2_many_2 : decode cX2_many 2 = .ok (.aload_n 0, 1) := dk_42 (dk_at dksX2_many_0 2 rfl rfl)
theorem dX2_many_3 : decode cX2_many 3 = .ok (.getfield 9, 3) := dk_180 0 9 (dk_at dksX2_many_0 3 rfl rfl)
theorem dX2_many_6 : decode cX2_many 6 = .ok (.astore_n 3, 1) := dk_78 (dk_at dksX2_many_0 6 rfl rfl)
theorem dX2_many_7 : decode cX2_many 7 = .ok (.aload_n 3, 1) := dk_45 (dk_at dksX2_many_0 7 rfl rfl)
theorem dX2_many_8 : decode cX2_many 8 = .ok (.arraylength, 1) := dk_190 (dk_at dksX2_many_0 8 rfl rfl)
theorem dX2_many_9 : decode cX2_many 9 = .ok (.istore 4, 2) := dk_54 4 (dk_at dksX2_many_0 9 rfl rfl)
theorem dX2_many_11 : decode cX2_many 11 = .ok (.iconst 0, 1) := dk_3 (dk_at dksX2_many_0 11 rfl rfl)
theorem dX2_many_12 : decode cX2_many 12 = .ok (.istore 5, 2) := dk_54 5 (dk_at dksX2_many_0 12 rfl rfl)
theorem dX2_many_14 : decode cX2_many 14 = .ok (.iload 5, 2) := dk_21 5 (dk_at dksX2_many_0 14 rfl rfl)
theorem dX2_many_16 : decode cX2_many 16 = .ok (.iload 4, 2) := dk_21 4 (dk_at dksX2_many_0 16 rfl rfl)
theorem dX2_many_18 : decode cX2_many 18 = .ok (.if_icmp .ge 29, 3) := dk_162 0 29 (dk_at dksX2_many_0 18 rfl rfl)
theorem dX2_many_21 : decode cX2_many 21 = .ok (.aload_n 3, 1) := dk_45 (dk_at dksX2_many_0 21 rfl rfl)
theorem dX2_many_22 : decode cX2_many 22 = .ok (.iload 5, 2) := dk_21 5 (dk_at dksX2_many_0 22 rfl rfl)
theorem dX2_many_24 : decode cX2_many 24 = .ok (.iaload, 1) := dk_46 (dk_at dksX2_many_1 0 rfl rfl)
theorem dX2_many_25 : decode cX2_many 25 = .ok (.istore 6, 2) := dk_54 6 (dk_at dksX2_many_1 1 rfl rfl)
theorem dX2_many_27 : decode cX2_many 27 = .ok (.iload_n 2, 1) := dk_28 (dk_at dksX2_many_1 3 rfl rfl)
theorem dX2_many_28 : decode cX2_many 28 = .ok (.iload 6, 2) := dk_21 6 (dk_at dksX2_many_1 4 rfl rfl)
theorem dX2_many_30 : decode cX2_many 30 = .ok (.iload_n 1, 1) := dk_27 (dk_at dksX2_many_1 6 rfl rfl)
theorem dX2_many_31 : decode cX2_many 31 = .ok (.if_icmp .ne 7, 3) := dk_160 0 7 (dk_at dksX2_many_1 7 rfl rfl)
theorem dX2_many_34 : decode cX2_many 34 = .ok (.iconst 1, 1) := dk_4 (dk_at dksX2_many_1 10 rfl rfl)
theorem dX2_many_35 : decode cX2_many 35 = .ok (.goto 4, 3) := dk_167 0 4 (dk_at dksX2_many_1 11 rfl rfl)
theorem dX2_many_38 : decode cX2_many 38 = .ok (.iconst 0, 1) := dk_3 (dk_at dksX2_many_1 14 rfl rfl)
theorem dX2_many_39 : decode cX2_many 39 = .ok (.iadd, 1) := dk_96 (dk_at dksX2_many_1 15 rfl rfl)
theorem dX2_many_40 : decode cX2_many 40 = .ok (.istore_n 2, 1) := dk_61 (dk_at dksX2_many_1 16 rfl rfl)
theorem dX2_many_41 : decode cX2_many 41 = .ok (.iinc 5 1, 3) := dk_132 5 1 (dk_at dksX2_many_1 17 rfl rfl)
theorem dX2_many_44 : decode cX2_many 44 = .ok (.goto (-30), 3) := dk_167 255 226 (dk_at dksX2_many_1 20 rfl rfl)
theorem dX2_many_47 : decode cX2_many 47 = .ok (.iload_n 2, 1) := dk_28 (dk_at dksX2_many_1 23 rfl rfl)
theorem dX2_many_48 : decode cX2_many 48 = .ok (.ireturn, 1) := dk_172 (dk_at dksX2_many_2 0 rfl rfl)
abbrev cX2_takes : ByteArray := prog_10_method_6_code
def yX2_takes : MethodName := ⟨RX2, "takes", "(I)I"⟩
def dkwX2_takes_1 : List UInt8 := [181, 0, 31, 42, 180, 0, 9, 27, 2, 79, 4, 27, 120, 172]
abbrev dktX2_takes_1 : List UInt8 := dkwX2_takes_1 ++ []
def dkwX2_takes_0 : List UInt8 := [27, 2, 160, 0, 5, 3, 172, 42, 42, 180, 0, 31, 2, 160, 0, 7, 27, 167, 0, 7, 42, 180, 0, 31]
abbrev dktX2_takes_0 : List UInt8 := dkwX2_takes_0 ++ dktX2_takes_1
theorem dksX2_takes_0 : cX2_takes.data.toList.drop 0 = dktX2_takes_0 := by decide +kernel
theorem dksX2_takes_1 : cX2_takes.data.toList.drop 24 = dktX2_takes_1 := dk_seg dksX2_takes_0 24 rfl rfl
theorem dX2_takes_0 : decode cX2_takes 0 = .ok (.iload_n 1, 1) := dk_27 (dk_at dksX2_takes_0 0 rfl rfl)
theorem dX2_takes_1 : decode cX2_takes 1 = .ok (.iconst (-1), 1) := dk_2 (dk_at dksX2_takes_0 1 rfl rfl)
theorem dX2_takes_2 : decode cX2_takes 2 = .ok (.if_icmp .ne 5, 3) := dk_160 0 5 (dk_at dksX2_takes_0 2 rfl rfl)
theorem dX2_takes_5 : decode cX2_takes 5 = .ok (.iconst 0, 1) := dk_3 (dk_at dksX2_takes_0 5 rfl rfl)
theorem dX2_takes_6 : decode cX2_takes 6 = .ok (.ireturn, 1) := dk_172 (dk_at dksX2_takes_0 6 rfl rfl)
theorem dX2_takes_7 : decode cX2_takes 7 = .ok (.aload_n 0, 1) := dk_42 (dk_at dksX2_takes_0 7 rfl rfl)
theorem dX2_takes_8 : decode cX2_takes 8 = .ok (.aload_n 0, 1) := dk_42 (dk_at dksX2_takes_0 8 rfl rfl)
theorem dX2_takes_9 : decode cX2_takes 9 = .ok (.getfield 31, 3) := dk_180 0 31 (dk_at dksX2_takes_0 9 rfl rfl)
theorem dX2_takes_12 : decode cX2_takes 12 = .ok (.iconst (-1), 1) := dk_2 (dk_at dksX2_takes_0 12 rfl rfl)
theorem dX2_takes_13 : decode cX2_takes 13 = .ok (.if_icmp .ne 7, 3) := dk_160 0 7 (dk_at dksX2_takes_0 13 rfl rfl)
theorem dX2_takes_16 : decode cX2_takes 16 = .ok (.iload_n 1, 1) := dk_27 (dk_at dksX2_takes_0 16 rfl rfl)
theorem dX2_takes_17 : decode cX2_takes 17 = .ok (.goto 7, 3) := dk_167 0 7 (dk_at dksX2_takes_0 17 rfl rfl)
theorem dX2_takes_20 : decode cX2_takes 20 = .ok (.aload_n 0, 1) := dk_42 (dk_at dksX2_takes_0 20 rfl rfl)
theorem dX2_takes_21 : decode cX2_takes 21 = .ok (.getfield 31, 3) := dk_180 0 31 (dk_at dksX2_takes_0 21 rfl rfl)
theorem dX2_takes_24 : decode cX2_takes 24 = .ok (.putfield 31, 3) := dk_181 0 31 (dk_at dksX2_takes_1 0 rfl rfl)
theorem dX2_takes_27 : decode cX2_takes 27 = .ok (.aload_n 0, 1) := dk_42 (dk_at dksX2_takes_1 3 rfl rfl)
theorem dX2_takes_28 : decode cX2_takes 28 = .ok (.getfield 9, 3) := dk_180 0 9 (dk_at dksX2_takes_1 4 rfl rfl)
theorem dX2_takes_31 : decode cX2_takes 31 = .ok (.iload_n 1, 1) := dk_27 (dk_at dksX2_takes_1 7 rfl rfl)
theorem dX2_takes_32 : decode cX2_takes 32 = .ok (.iconst (-1), 1) := dk_2 (dk_at dksX2_takes_1 8 rfl rfl)
theorem dX2_takes_33 : decode cX2_takes 33 = .ok (.iastore, 1) := dk_79 (dk_at dksX2_takes_1 9 rfl rfl)
theorem dX2_takes_34 : decode cX2_takes 34 = .ok (.iconst 1, 1) := dk_4 (dk_at dksX2_takes_1 10 rfl rfl)
theorem dX2_takes_35 : decode cX2_takes 35 = .ok (.iload_n 1, 1) := dk_27 (dk_at dksX2_takes_1 11 rfl rfl)
theorem dX2_takes_36 : decode cX2_takes 36 = .ok (.ishl, 1) := dk_120 (dk_at dksX2_takes_1 12 rfl rfl)
theorem dX2_takes_37 : decode cX2_takes 37 = .ok (.ireturn, 1) := dk_172 (dk_at dksX2_takes_1 13 rfl rfl)
abbrev cX2_firstOf : ByteArray := prog_10_method_3_code
def yX2_firstOf : MethodName := ⟨RX2, "firstOf", "(I)I"⟩
def dkwX2_firstOf_1 : List UInt8 := [46, 184, 0, 27, 153, 0, 5, 28, 172, 132, 2, 1, 167, 255, 222, 2, 172]
abbrev dktX2_firstOf_1 : List UInt8 := dkwX2_firstOf_1 ++ []
def dkwX2_firstOf_0 : List UInt8 := [3, 61, 28, 16, 12, 162, 0, 34, 42, 180, 0, 9, 28, 46, 2, 159, 0, 18, 27, 42, 180, 0, 9, 28]
abbrev dktX2_firstOf_0 : List UInt8 := dkwX2_firstOf_0 ++ dktX2_firstOf_1
theorem dksX2_firstOf_0 : cX2_firstOf.data.toList.drop 0 = dktX2_firstOf_0 := by decide +kernel
theorem dksX2_firstOf_1 : cX2_firstOf.data.toList.drop 24 = dktX2_firstOf_1 := dk_seg dksX2_firstOf_0 24 rfl rfl
theorem dX2_firstOf_0 : decode cX2_firstOf 0 = .ok (.iconst 0, 1) := dk_3 (dk_at dksX2_firstOf_0 0 rfl rfl)
theorem dX2_firstOf_1 : decode cX2_firstOf 1 = .ok (.istore_n 2, 1) := dk_61 (dk_at dksX2_firstOf_0 1 rfl rfl)
theorem dX2_firstOf_2 : decode cX2_firstOf 2 = .ok (.iload_n 2, 1) := dk_28 (dk_at dksX2_firstOf_0 2 rfl rfl)
theorem dX2_firstOf_3 : decode cX2_firstOf 3 = .ok (.bipush 12, 2) := dk_16 12 (dk_at dksX2_firstOf_0 3 rfl rfl)
theorem dX2_firstOf_5 : decode cX2_firstOf 5 = .ok (.if_icmp .ge 34, 3) := dk_162 0 34 (dk_at dksX2_firstOf_0 5 rfl rfl)
theorem dX2_firstOf_8 : decode cX2_firstOf 8 = .ok (.aload_n 0, 1) := dk_42 (dk_at dksX2_firstOf_0 8 rfl rfl)
theorem dX2_firstOf_9 : decode cX2_firstOf 9 = .ok (.getfield 9, 3) := dk_180 0 9 (dk_at dksX2_firstOf_0 9 rfl rfl)
theorem dX2_firstOf_12 : decode cX2_firstOf 12 = .ok (.iload_n 2, 1) := dk_28 (dk_at dksX2_firstOf_0 12 rfl rfl)
theorem dX2_firstOf_13 : decode cX2_firstOf 13 = .ok (.iaload, 1) := dk_46 (dk_at dksX2_firstOf_0 13 rfl rfl)
theorem dX2_firstOf_14 : decode cX2_firstOf 14 = .ok (.iconst (-1), 1) := dk_2 (dk_at dksX2_firstOf_0 14 rfl rfl)
theorem dX2_firstOf_15 : decode cX2_firstOf 15 = .ok (.if_icmp .eq 18, 3) := dk_159 0 18 (dk_at dksX2_firstOf_0 15 rfl rfl)
theorem dX2_firstOf_18 : decode cX2_firstOf 18 = .ok (.iload_n 1, 1) := dk_27 (dk_at dksX2_firstOf_0 18 rfl rfl)
theorem dX2_firstOf_19 : decode cX2_firstOf 19 = .ok (.aload_n 0, 1) := dk_42 (dk_at dksX2_firstOf_0 19 rfl rfl)
theorem dX2_firstOf_20 : decode cX2_firstOf 20 = .ok (.getfield 9, 3) := dk_180 0 9 (dk_at dksX2_firstOf_0 20 rfl rfl)
theorem dX2_firstOf_23 : decode cX2_firstOf 23 = .ok (.iload_n 2, 1) := dk_28 (dk_at dksX2_firstOf_0 23 rfl rfl)
theorem dX2_firstOf_24 : decode cX2_firstOf 24 = .ok (.iaload, 1) := dk_46 (dk_at dksX2_firstOf_1 0 rfl rfl)
theorem dX2_firstOf_25 : decode cX2_firstOf 25 = .ok (.invokestatic 27, 3) := dk_184 0 27 (dk_at dksX2_firstOf_1 1 rfl rfl)
theorem dX2_firstOf_28 : decode cX2_firstOf 28 = .ok (.ifCond .eq 5, 3) := dk_153 0 5 (dk_at dksX2_firstOf_1 4 rfl rfl)
theorem dX2_firstOf_31 : decode cX2_firstOf 31 = .ok (.iload_n 2, 1) := dk_28 (dk_at dksX2_firstOf_1 7 rfl rfl)
theorem dX2_firstOf_32 : decode cX2_firstOf 32 = .ok (.ireturn, 1) := dk_172 (dk_at dksX2_firstOf_1 8 rfl rfl)
theorem dX2_firstOf_33 : decode cX2_firstOf 33 = .ok (.iinc 2 1, 3) := dk_132 2 1 (dk_at dksX2_firstOf_1 9 rfl rfl)
theorem dX2_firstOf_36 : decode cX2_firstOf 36 = .ok (.goto (-34), 3) := dk_167 255 222 (dk_at dksX2_firstOf_1 12 rfl rfl)
theorem dX2_firstOf_39 : decode cX2_firstOf 39 = .ok (.iconst (-1), 1) := dk_2 (dk_at dksX2_firstOf_1 15 rfl rfl)
theorem dX2_firstOf_40 : decode cX2_firstOf 40 = .ok (.ireturn, 1) := dk_172 (dk_at dksX2_firstOf_1 16 rfl rfl)
abbrev cX2_things : ByteArray := prog_10_method_7_code
def yX2_things : MethodName := ⟨RX2, "things", "()I"⟩
def dkwX2_things_1 : List UInt8 := [167, 0, 4, 3, 128, 60, 132, 2, 1, 167, 255, 227, 27, 172]
abbrev dktX2_things_1 : List UInt8 := dkwX2_things_1 ++ []
def dkwX2_things_0 : List UInt8 := [3, 60, 3, 61, 28, 16, 12, 162, 0, 29, 27, 42, 180, 0, 9, 28, 46, 2, 159, 0, 9, 4, 28, 120]
abbrev dktX2_things_0 : List UInt8 := dkwX2_things_0 ++ dktX2_things_1
theorem dksX2_things_0 : cX2_things.data.toList.drop 0 = dktX2_things_0 := by decide +kernel
theorem dksX2_things_1 : cX2_things.data.toList.drop 24 = dktX2_things_1 := dk_seg dksX2_things_0 24 rfl rfl
theorem dX2_things_0 : decode cX2_things 0 = .ok (.iconst 0, 1) := dk_3 (dk_at dksX2_things_0 0 rfl rfl)
theorem dX2_things_1 : decode cX2_things 1 = .ok (.istore_n 1, 1) := dk_60 (dk_at dksX2_things_0 1 rfl rfl)
theorem dX2_things_2 : decode cX2_things 2 = .ok (.iconst 0, 1) := dk_3 (dk_at dksX2_things_0 2 rfl rfl)
theorem dX2_things_3 : decode cX2_things 3 = .ok (.istore_n 2, 1) := dk_61 (dk_at dksX2_things_0 3 rfl rfl)
theorem dX2_things_4 : decode cX2_things 4 = .ok (.iload_n 2, 1) := dk_28 (dk_at dksX2_things_0 4 rfl rfl)
theorem dX2_things_5 : decode cX2_things 5 = .ok (.bipush 12, 2) := dk_16 12 (dk_at dksX2_things_0 5 rfl rfl)
theorem dX2_things_7 : decode cX2_things 7 = .ok (.if_icmp .ge 29, 3) := dk_162 0 29 (dk_at dksX2_things_0 7 rfl rfl)
theorem dX2_things_10 : decode cX2_things 10 = .ok (.iload_n 1, 1) := dk_27 (dk_at dksX2_things_0 10 rfl rfl)
theorem dX2_things_11 : decode cX2_things 11 = .ok (.aload_n 0, 1) := dk_42 (dk_at dksX2_things_0 11 rfl rfl)
theorem dX2_things_12 : decode cX2_things 12 = .ok (.getfield 9, 3) := dk_180 0 9 (dk_at dksX2_things_0 12 rfl rfl)
theorem dX2_things_15 : decode cX2_things 15 = .ok (.iload_n 2, 1) := dk_28 (dk_at dksX2_things_0 15 rfl rfl)
theorem dX2_things_16 : decode cX2_things 16 = .ok (.iaload, 1) := dk_46 (dk_at dksX2_things_0 16 rfl rfl)
theorem dX2_things_17 : decode cX2_things 17 = .ok (.iconst (-1), 1) := dk_2 (dk_at dksX2_things_0 17 rfl rfl)
theorem dX2_things_18 : decode cX2_things 18 = .ok (.if_icmp .eq 9, 3) := dk_159 0 9 (dk_at dksX2_things_0 18 rfl rfl)
theorem dX2_things_21 : decode cX2_things 21 = .ok (.iconst 1, 1) := dk_4 (dk_at dksX2_things_0 21 rfl rfl)
theorem dX2_things_22 : decode cX2_things 22 = .ok (.iload_n 2, 1) := dk_28 (dk_at dksX2_things_0 22 rfl rfl)
theorem dX2_things_23 : decode cX2_things 23 = .ok (.ishl, 1) := dk_120 (dk_at dksX2_things_0 23 rfl rfl)
theorem dX2_things_24 : decode cX2_things 24 = .ok (.goto 4, 3) := dk_167 0 4 (dk_at dksX2_things_1 0 rfl rfl)
theorem dX2_things_27 : decode cX2_things 27 = .ok (.iconst 0, 1) := dk_3 (dk_at dksX2_things_1 3 rfl rfl)
theorem dX2_things_28 : decode cX2_things 28 = .ok (.ior, 1) := dk_128 (dk_at dksX2_things_1 4 rfl rfl)
theorem dX2_things_29 : decode cX2_things 29 = .ok (.istore_n 1, 1) := dk_60 (dk_at dksX2_things_1 5 rfl rfl)
theorem dX2_things_30 : decode cX2_things 30 = .ok (.iinc 2 1, 3) := dk_132 2 1 (dk_at dksX2_things_1 6 rfl rfl)
theorem dX2_things_33 : decode cX2_things 33 = .ok (.goto (-29), 3) := dk_167 255 227 (dk_at dksX2_things_1 9 rfl rfl)
theorem dX2_things_36 : decode cX2_things 36 = .ok (.iload_n 1, 1) := dk_27 (dk_at dksX2_things_1 12 rfl rfl)
theorem dX2_things_37 : decode cX2_things 37 = .ok (.ireturn, 1) := dk_172 (dk_at dksX2_things_1 13 rfl rfl)
theorem q85 : (Jvm.Cond.initialized "SeenInOrderOfAge$Panes") ∈ lw_all := lw_g (lw_at lw_m1 3 rfl) rfl
theorem q134 : (Jvm.Cond.instantiable "SeenInOrderOfAge$Panes" (2 : Nat)) ∈ lw_all := lw_g (lw_at lw_m1 52 rfl) rfl
theorem q136 : (Jvm.Cond.instanceMethod ({ cls := "SeenInOrderOfAge$Panes", name := "<init>", desc := "()V" } : Jvm.MethodName)) ∈ lw_all := lw_g (lw_at lw_m1 54 rfl) rfl
theorem q137 : (Jvm.Cond.code ({ cls := "SeenInOrderOfAge$Panes", name := "<init>", desc := "()V" } : Jvm.MethodName) prog_10_method_1_code (1 : Nat) (Option.none : Option Jvm.ClassFile.FieldType)) ∈ lw_all := lw_g (lw_at lw_m1 55 rfl) rfl
theorem q138 : (Jvm.Cond.methodLink "SeenInOrderOfAge$Panes" (3 : Nat) ({ cls := "java/lang/Object", name := "<init>", desc := "()V" } : Jvm.MethodName)) ∈ lw_all := lw_g (lw_at lw_m1 56 rfl) rfl
theorem q139 : (Jvm.Cond.methodLink "SeenInOrderOfAge$Panes" (15 : Nat) ({ cls := "java/util/Arrays", name := "fill", desc := "([II)V" } : Jvm.MethodName)) ∈ lw_all := lw_g (lw_at lw_m1 57 rfl) rfl
theorem q142 : (Jvm.Cond.fieldLink "SeenInOrderOfAge$Panes" (9 : Nat) "SeenInOrderOfAge$Panes" "sort" "[I") ∈ lw_all := lw_g (lw_at lw_m1 60 rfl) rfl
theorem q148 : (Jvm.Cond.fieldLink "SeenInOrderOfAge$Panes" (31 : Nat) "SeenInOrderOfAge$Panes" "first" "I") ∈ lw_all := lw_g (lw_at lw_m1 66 rfl) rfl
theorem q149 : (Jvm.Cond.laysFinal "SeenInOrderOfAge$Panes" "SeenInOrderOfAge$Panes" "sort" "[I") ∈ lw_all := lw_g (lw_at lw_m1 67 rfl) rfl
theorem q150 : (Jvm.Cond.soleField "SeenInOrderOfAge$Panes" "sort") ∈ lw_all := lw_g (lw_at lw_m1 68 rfl) rfl
theorem q151 : (Jvm.Cond.lays "SeenInOrderOfAge$Panes" "SeenInOrderOfAge$Panes" "first" "I") ∈ lw_all := lw_g (lw_at lw_m1 69 rfl) rfl
theorem q152 : (Jvm.Cond.soleField "SeenInOrderOfAge$Panes" "first") ∈ lw_all := lw_g (lw_at lw_m1 70 rfl) rfl
theorem q153 : (Jvm.Cond.superclass "SeenInOrderOfAge$Panes" "java/lang/Object") ∈ lw_all := lw_g (lw_at lw_m1 71 rfl) rfl
theorem q556 : (Jvm.Cond.instanceMethod ({ cls := "SeenInOrderOfAge$Panes", name := "becomes", desc := "(LSeenInOrderOfAge$Panes;)LSeenInOrderOfAge$Panes;" } : Jvm.MethodName)) ∈ lw_all := lw_g (lw_at lw_m2 234 rfl) rfl
theorem q557 : (Jvm.Cond.selects "SeenInOrderOfAge$Panes" ({ cls := "SeenInOrderOfAge$Panes", name := "becomes", desc := "(LSeenInOrderOfAge$Panes;)LSeenInOrderOfAge$Panes;" } : Jvm.MethodName) ({ cls := "SeenInOrderOfAge$Panes", name := "becomes", desc := "(LSeenInOrderOfAge$Panes;)LSeenInOrderOfAge$Panes;" } : Jvm.MethodName)) ∈ lw_all := lw_g (lw_at lw_m2 235 rfl) rfl
theorem q558 : (Jvm.Cond.code ({ cls := "SeenInOrderOfAge$Panes", name := "becomes", desc := "(LSeenInOrderOfAge$Panes;)LSeenInOrderOfAge$Panes;" } : Jvm.MethodName) prog_10_method_2_code (2 : Nat) (Option.some (Jvm.ClassFile.FieldType.object "SeenInOrderOfAge$Panes"))) ∈ lw_all := lw_g (lw_at lw_m2 236 rfl) rfl
theorem q559 : (Jvm.Cond.methodLink "SeenInOrderOfAge$Panes" (21 : Nat) ({ cls := "java/lang/System", name := "arraycopy", desc := "(Ljava/lang/Object;ILjava/lang/Object;II)V" } : Jvm.MethodName)) ∈ lw_all := lw_g (lw_at lw_m2 237 rfl) rfl
theorem q589 : (Jvm.Cond.instanceMethod ({ cls := "SeenInOrderOfAge$Panes", name := "lastOf", desc := "(I)I" } : Jvm.MethodName)) ∈ lw_all := lw_g (lw_at lw_m3 27 rfl) rfl
theorem q590 : (Jvm.Cond.selects "SeenInOrderOfAge$Panes" ({ cls := "SeenInOrderOfAge$Panes", name := "lastOf", desc := "(I)I" } : Jvm.MethodName) ({ cls := "SeenInOrderOfAge$Panes", name := "lastOf", desc := "(I)I" } : Jvm.MethodName)) ∈ lw_all := lw_g (lw_at lw_m3 28 rfl) rfl
theorem q591 : (Jvm.Cond.code ({ cls := "SeenInOrderOfAge$Panes", name := "lastOf", desc := "(I)I" } : Jvm.MethodName) prog_10_method_4_code (3 : Nat) (Option.some Jvm.ClassFile.FieldType.int)) ∈ lw_all := lw_g (lw_at lw_m3 29 rfl) rfl
theorem q592 : (Jvm.Cond.methodLinkNest "SeenInOrderOfAge$Panes" (27 : Nat) ({ cls := "SeenInOrderOfAge", name := "has", desc := "(II)Z" } : Jvm.MethodName) "SeenInOrderOfAge") ∈ lw_tbl := lw_at lw_m3 30 rfl
theorem q603 : (Jvm.Cond.instanceMethod ({ cls := "SeenInOrderOfAge$Panes", name := "many", desc := "(I)I" } : Jvm.MethodName)) ∈ lw_all := lw_g (lw_at lw_m3 41 rfl) rfl
theorem q604 : (Jvm.Cond.selects "SeenInOrderOfAge$Panes" ({ cls := "SeenInOrderOfAge$Panes", name := "many", desc := "(I)I" } : Jvm.MethodName) ({ cls := "SeenInOrderOfAge$Panes", name := "many", desc := "(I)I" } : Jvm.MethodName)) ∈ lw_all := lw_g (lw_at lw_m3 42 rfl) rfl
theorem q605 : (Jvm.Cond.code ({ cls := "SeenInOrderOfAge$Panes", name := "many", desc := "(I)I" } : Jvm.MethodName) prog_10_method_5_code (7 : Nat) (Option.some Jvm.ClassFile.FieldType.int)) ∈ lw_all := lw_g (lw_at lw_m3 43 rfl) rfl
theorem q608 : (Jvm.Cond.instanceMethod ({ cls := "SeenInOrderOfAge$Panes", name := "takes", desc := "(I)I" } : Jvm.MethodName)) ∈ lw_all := lw_g (lw_at lw_m3 46 rfl) rfl
theorem q609 : (Jvm.Cond.selects "SeenInOrderOfAge$Panes" ({ cls := "SeenInOrderOfAge$Panes", name := "takes", desc := "(I)I" } : Jvm.MethodName) ({ cls := "SeenInOrderOfAge$Panes", name := "takes", desc := "(I)I" } : Jvm.MethodName)) ∈ lw_all := lw_g (lw_at lw_m3 47 rfl) rfl
theorem q610 : (Jvm.Cond.code ({ cls := "SeenInOrderOfAge$Panes", name := "takes", desc := "(I)I" } : Jvm.MethodName) prog_10_method_6_code (2 : Nat) (Option.some Jvm.ClassFile.FieldType.int)) ∈ lw_all := lw_g (lw_at lw_m3 48 rfl) rfl
theorem q615 : (Jvm.Cond.instanceMethod ({ cls := "SeenInOrderOfAge$Panes", name := "firstOf", desc := "(I)I" } : Jvm.MethodName)) ∈ lw_all := lw_g (lw_at lw_m3 53 rfl) rfl
theorem q616 : (Jvm.Cond.selects "SeenInOrderOfAge$Panes" ({ cls := "SeenInOrderOfAge$Panes", name := "firstOf", desc := "(I)I" } : Jvm.MethodName) ({ cls := "SeenInOrderOfAge$Panes", name := "firstOf", desc := "(I)I" } : Jvm.MethodName)) ∈ lw_all := lw_g (lw_at lw_m3 54 rfl) rfl
theorem q617 : (Jvm.Cond.code ({ cls := "SeenInOrderOfAge$Panes", name := "firstOf", desc := "(I)I" } : Jvm.MethodName) prog_10_method_3_code (3 : Nat) (Option.some Jvm.ClassFile.FieldType.int)) ∈ lw_all := lw_g (lw_at lw_m3 55 rfl) rfl
theorem q1232 : (Jvm.Cond.instanceMethod ({ cls := "SeenInOrderOfAge$Panes", name := "things", desc := "()I" } : Jvm.MethodName)) ∈ lw_all := lw_g (lw_at lw_m5 190 rfl) rfl
theorem q1233 : (Jvm.Cond.selects "SeenInOrderOfAge$Panes" ({ cls := "SeenInOrderOfAge$Panes", name := "things", desc := "()I" } : Jvm.MethodName) ({ cls := "SeenInOrderOfAge$Panes", name := "things", desc := "()I" } : Jvm.MethodName)) ∈ lw_all := lw_g (lw_at lw_m5 191 rfl) rfl
theorem q1234 : (Jvm.Cond.code ({ cls := "SeenInOrderOfAge$Panes", name := "things", desc := "()I" } : Jvm.MethodName) prog_10_method_7_code (3 : Nat) (Option.some Jvm.ClassFile.FieldType.int)) ∈ lw_all := lw_g (lw_at lw_m5 192 rfl) rfl

/-! X3 -/
abbrev cX3_init : ByteArray := prog_3_method_1_code
def yX3_init : MethodName := ⟨RX3, "<init>", "()V"⟩
def dkwX3_init_1 : List UInt8 := [16, 8, 188, 10, 181, 0, 22, 177]
abbrev dktX3_init_1 : List UInt8 := dkwX3_init_1 ++ []
def dkwX3_init_0 : List UInt8 := [42, 183, 0, 3, 42, 187, 0, 9, 89, 183, 0, 11, 181, 0, 12, 42, 16, 8, 188, 10, 181, 0, 18, 42]
abbrev dktX3_init_0 : List UInt8 := dkwX3_init_0 ++ dktX3_init_1
theorem dksX3_init_0 : cX3_init.data.toList.drop 0 = dktX3_init_0 := by decide +kernel
theorem dksX3_init_1 : cX3_init.data.toList.drop 24 = dktX3_init_1 := dk_seg dksX3_init_0 24 rfl rfl
theorem dX3_init_0 : decode cX3_init 0 = .ok (.aload_n 0, 1) := dk_42 (dk_at dksX3_init_0 0 rfl rfl)
theorem dX3_init_1 : decode cX3_init 1 = .ok (.invokespecial 3, 3) := dk_183 0 3 (dk_at dksX3_init_0 1 rfl rfl)
theorem dX3_init_4 : decode cX3_init 4 = .ok (.aload_n 0, 1) := dk_42 (dk_at dksX3_init_0 4 rfl rfl)
theorem dX3_init_5 : decode cX3_init 5 = .ok (.new 9, 3) := dk_187 0 9 (dk_at dksX3_init_0 5 rfl rfl)
theorem dX3_init_8 : decode cX3_init 8 = .ok (.dup, 1) := dk_89 (dk_at dksX3_init_0 8 rfl rfl)
theorem dX3_init_9 : decode cX3_init 9 = .ok (.invokespecial 11, 3) := dk_183 0 11 (dk_at dksX3_init_0 9 rfl rfl)
theorem dX3_init_12 : decode cX3_init 12 = .ok (.putfield 12, 3) := dk_181 0 12 (dk_at dksX3_init_0 12 rfl rfl)
theorem dX3_init_15 : decode cX3_init 15 = .ok (.aload_n 0, 1) := dk_42 (dk_at dksX3_init_0 15 rfl rfl)
theorem dX3_init_16 : decode cX3_init 16 = .ok (.bipush 8, 2) := dk_16 8 (dk_at dksX3_init_0 16 rfl rfl)
theorem dX3_init_18 : decode cX3_init 18 = .ok (.newarray .int, 2) := dk_188_10 (dk_at dksX3_init_0 18 rfl rfl)
theorem dX3_init_20 : decode cX3_init 20 = .ok (.putfield 18, 3) := dk_181 0 18 (dk_at dksX3_init_0 20 rfl rfl)
theorem dX3_init_23 : decode cX3_init 23 = .ok (.aload_n 0, 1) := dk_42 (dk_at dksX3_init_0 23 rfl rfl)
theorem dX3_init_24 : decode cX3_init 24 = .ok (.bipush 8, 2) := dk_16 8 (dk_at dksX3_init_1 0 rfl rfl)
theorem dX3_init_26 : decode cX3_init 26 = .ok (.newarray .int, 2) := dk_188_10 (dk_at dksX3_init_1 2 rfl rfl)
theorem dX3_init_28 : decode cX3_init 28 = .ok (.putfield 22, 3) := dk_181 0 22 (dk_at dksX3_init_1 4 rfl rfl)
theorem dX3_init_31 : decode cX3_init 31 = .ok (.return_, 1) := dk_177 (dk_at dksX3_init_1 7 rfl rfl)
abbrev cX3_of : ByteArray := prog_3_method_2_code
def yX3_of : MethodName := ⟨RX3, "of", "(LSeenInOrderOfAge$Window;I)LSeenInOrderOfAge$Evening;"⟩
def dkwX3_of_0 : List UInt8 := [42, 43, 43, 180, 0, 25, 28, 182, 0, 28, 176]
abbrev dktX3_of_0 : List UInt8 := dkwX3_of_0 ++ []
theorem dksX3_of_0 : cX3_of.data.toList.drop 0 = dktX3_of_0 := by decide +kernel
theorem dX3_of_0 : decode cX3_of 0 = .ok (.aload_n 0, 1) := dk_42 (dk_at dksX3_of_0 0 rfl rfl)
theorem dX3_of_1 : decode cX3_of 1 = .ok (.aload_n 1, 1) := dk_43 (dk_at dksX3_of_0 1 rfl rfl)
theorem dX3_of_2 : decode cX3_of 2 = .ok (.aload_n 1, 1) := dk_43 (dk_at dksX3_of_0 2 rfl rfl)
theorem dX3_of_3 : decode cX3_of 3 = .ok (.getfield 25, 3) := dk_180 0 25 (dk_at dksX3_of_0 3 rfl rfl)
theorem dX3_of_6 : decode cX3_of 6 = .ok (.iload_n 2, 1) := dk_28 (dk_at dksX3_of_0 6 rfl rfl)
theorem dX3_of_7 : decode cX3_of 7 = .ok (.invokevirtual 28, 3) := dk_182 0 28 (dk_at dksX3_of_0 7 rfl rfl)
theorem dX3_of_10 : decode cX3_of 10 = .ok (.areturn, 1) := dk_176 (dk_at dksX3_of_0 10 rfl rfl)
abbrev cX3_from : ByteArray := prog_3_method_3_code
def yX3_from : MethodName := ⟨RX3, "from", "(LSeenInOrderOfAge$Window;LSeenInOrderOfAge$Panes;I)LSeenInOrderOfAge$Evening;"⟩
def dkwX3_from_3 : List UInt8 := [54, 4, 42, 180, 0, 32, 21, 4, 182, 0, 50, 54, 5, 167, 255, 221, 42, 176]
abbrev dktX3_from_3 : List UInt8 := dkwX3_from_3 ++ []
def dkwX3_from_2 : List UInt8 := [54, 5, 21, 5, 2, 159, 0, 35, 42, 21, 5, 44, 182, 0, 54, 21, 4, 4, 21, 5, 120, 2, 130, 126]
abbrev dktX3_from_2 : List UInt8 := dkwX3_from_2 ++ dktX3_from_3
def dkwX3_from_1 : List UInt8 := [184, 0, 44, 42, 180, 0, 22, 2, 184, 0, 44, 29, 54, 4, 42, 180, 0, 32, 21, 4, 182, 0, 50]
abbrev dktX3_from_1 : List UInt8 := dkwX3_from_1 ++ dktX3_from_2
def dkwX3_from_0 : List UInt8 := [42, 43, 181, 0, 32, 42, 180, 0, 12, 44, 182, 0, 36, 87, 42, 3, 181, 0, 40, 42, 180, 0, 18, 3]
abbrev dktX3_from_0 : List UInt8 := dkwX3_from_0 ++ dktX3_from_1
theorem dksX3_from_0 : cX3_from.data.toList.drop 0 = dktX3_from_0 := by decide +kernel
theorem dksX3_from_1 : cX3_from.data.toList.drop 24 = dktX3_from_1 := dk_seg dksX3_from_0 24 rfl rfl
theorem dksX3_from_2 : cX3_from.data.toList.drop 47 = dktX3_from_2 := dk_seg dksX3_from_1 23 rfl rfl
theorem dksX3_from_3 : cX3_from.data.toList.drop 71 = dktX3_from_3 := dk_seg dksX3_from_2 24 rfl rfl
theorem dX3_from_0 : decode cX3_from 0 = .ok (.aload_n 0, 1) := dk_42 (dk_at dksX3_from_0 0 rfl rfl)
theorem dX3_from_1 : decode cX3_from 1 = .ok (.aload_n 1, 1) := dk_43 (dk_at dksX3_from_0 1 rfl rfl)
theorem dX3_from_2 : decode cX3_from 2 = .ok (.putfield 32, 3) := dk_181 0 32 (dk_at dksX3_from_0 2 rfl rfl)
theorem dX3_from_5 : decode cX3_from 5 = .ok (.aload_n 0, 1) := dk_42 (dk_at dksX3_from_0 5 rfl rfl)
theorem dX3_from_6 : decode cX3_from 6 = .ok (.getfield 12, 3) := dk_180 0 12 (dk_at dksX3_from_0 6 rfl rfl)
theorem dX3_from_9 : decode cX3_from 9 = .ok (.aload_n 2, 1) := dk_44 (dk_at dksX3_from_0 9 rfl rfl)
theorem dX3_from_10 : decode cX3_from 10 = .ok (.invokevirtual 36, 3) := dk_182 0 36 (dk_at dksX3_from_0 10 rfl rfl)
theorem dX3_from_13 : decode cX3_from 13 = .ok (.pop, 1) := dk_87 (dk_at dksX3_from_0 13 rfl rfl)
theorem dX3_from_14 : decode cX3_from 14 = .ok (.aload_n 0, 1) := dk_42 (dk_at dksX3_from_0 14 rfl rfl)
theorem dX3_from_15 : decode cX3_from 15 = .ok (.iconst 0, 1) := dk_3 (dk_at dksX3_from_0 15 rfl rfl)
theorem dX3_from_16 : decode cX3_from 16 = .ok (.putfield 40, 3) := dk_181 0 40 (dk_at dksX3_from_0 16 rfl rfl)
theorem dX3_from_19 : decode cX3_from 19 = .ok (.aload_n 0, 1) := dk_42 (dk_at dksX3_from_0 19 rfl rfl)
theorem dX3_from_20 : decode cX3_from 20 = .ok (.getfield 18, 3) := dk_180 0 18 (dk_at dksX3_from_0 20 rfl rfl)
theorem dX3_from_23 : decode cX3_from 23 = .ok (.iconst 0, 1) := dk_3 (dk_at dksX3_from_0 23 rfl rfl)
theorem dX3_from_24 : decode cX3_from 24 = .ok (.invokestatic 44, 3) := dk_184 0 44 (dk_at dksX3_from_1 0 rfl rfl)
theorem dX3_from_27 : decode cX3_from 27 = .ok (.aload_n 0, 1) := dk_42 (dk_at dksX3_from_1 3 rfl rfl)
theorem dX3_from_28 : decode cX3_from 28 = .ok (.getfield 22, 3) := dk_180 0 22 (dk_at dksX3_from_1 4 rfl rfl)
theorem dX3_from_31 : decode cX3_from 31 = .ok (.iconst (-1), 1) := dk_2 (dk_at dksX3_from_1 7 rfl rfl)
theorem dX3_from_32 : decode cX3_from 32 = .ok (.invokestatic 44, 3) := dk_184 0 44 (dk_at dksX3_from_1 8 rfl rfl)
theorem dX3_from_35 : decode cX3_from 35 = .ok (.iload_n 3, 1) := dk_29 (dk_at dksX3_from_1 11 rfl rfl)
theorem dX3_from_36 : decode cX3_from 36 = .ok (.istore 4, 2) := dk_54 4 (dk_at dksX3_from_1 12 rfl rfl)
theorem dX3_from_38 : decode cX3_from 38 = .ok (.aload_n 0, 1) := dk_42 (dk_at dksX3_from_1 14 rfl rfl)
theorem dX3_from_39 : decode cX3_from 39 = .ok (.getfield 32, 3) := dk_180 0 32 (dk_at dksX3_from_1 15 rfl rfl)
theorem dX3_from_42 : decode cX3_from 42 = .ok (.iload 4, 2) := dk_21 4 (dk_at dksX3_from_1 18 rfl rfl)
theorem dX3_from_44 : decode cX3_from 44 = .ok (.invokevirtual 50, 3) := dk_182 0 50 (dk_at dksX3_from_1 20 rfl rfl)
theorem dX3_from_47 : decode cX3_from 47 = .ok (.istore 5, 2) := dk_54 5 (dk_at dksX3_from_2 0 rfl rfl)
theorem dX3_from_49 : decode cX3_from 49 = .ok (.iload 5, 2) := dk_21 5 (dk_at dksX3_from_2 2 rfl rfl)
theorem dX3_from_51 : decode cX3_from 51 = .ok (.iconst (-1), 1) := dk_2 (dk_at dksX3_from_2 4 rfl rfl)
theorem dX3_from_52 : decode cX3_from 52 = .ok (.if_icmp .eq 35, 3) := dk_159 0 35 (dk_at dksX3_from_2 5 rfl rfl)
theorem dX3_from_55 : decode cX3_from 55 = .ok (.aload_n 0, 1) := dk_42 (dk_at dksX3_from_2 8 rfl rfl)
theorem dX3_from_56 : decode cX3_from 56 = .ok (.iload 5, 2) := dk_21 5 (dk_at dksX3_from_2 9 rfl rfl)
theorem dX3_from_58 : decode cX3_from 58 = .ok (.aload_n 2, 1) := dk_44 (dk_at dksX3_from_2 11 rfl rfl)
theorem dX3_from_59 : decode cX3_from 59 = .ok (.invokevirtual 54, 3) := dk_182 0 54 (dk_at dksX3_from_2 12 rfl rfl)
theorem dX3_from_62 : decode cX3_from 62 = .ok (.iload 4, 2) := dk_21 4 (dk_at dksX3_from_2 15 rfl rfl)
theorem dX3_from_64 : decode cX3_from 64 = .ok (.iconst 1, 1) := dk_4 (dk_at dksX3_from_2 17 rfl rfl)
theorem dX3_from_65 : decode cX3_from 65 = .ok (.iload 5, 2) := dk_21 5 (dk_at dksX3_from_2 18 rfl rfl)
theorem dX3_from_67 : decode cX3_from 67 = .ok (.ishl, 1) := dk_120 (dk_at dksX3_from_2 20 rfl rfl)
theorem dX3_from_68 : decode cX3_from 68 = .ok (.iconst (-1), 1) := dk_2 (dk_at dksX3_from_2 21 rfl rfl)
theorem dX3_from_69 : decode cX3_from 69 = .ok (.ixor, 1) := dk_130 (dk_at dksX3_from_2 22 rfl rfl)
theorem dX3_from_70 : decode cX3_from 70 = .ok (.iand, 1) := dk_126 (dk_at dksX3_from_2 23 rfl rfl)
theorem dX3_from_71 : decode cX3_from 71 = .ok (.istore 4, 2) := dk_54 4 (dk_at dksX3_from_3 0 rfl rfl)
theorem dX3_from_73 : decode cX3_from 73 = .ok (.aload_n 0, 1) := dk_42 (dk_at dksX3_from_3 2 rfl rfl)
theorem dX3_from_74 : decode cX3_from 74 = .ok (.getfield 32, 3) := dk_180 0 32 (dk_at dksX3_from_3 3 rfl rfl)
theorem dX3_from_77 : decode cX3_from 77 = .ok (.iload 4, 2) := dk_21 4 (dk_at dksX3_from_3 6 rfl rfl)
theorem dX3_from_79 : decode cX3_from 79 = .ok (.invokevirtual 50, 3) := dk_182 0 50 (dk_at dksX3_from_3 8 rfl rfl)
theorem dX3_from_82 : decode cX3_from 82 = .ok (.istore 5, 2) := dk_54 5 (dk_at dksX3_from_3 11 rfl rfl)
theorem dX3_from_84 : decode cX3_from 84 = .ok (.goto (-35), 3) := dk_167 255 221 (dk_at dksX3_from_3 13 rfl rfl)
theorem dX3_from_87 : decode cX3_from 87 = .ok (.aload_n 0, 1) := dk_42 (dk_at dksX3_from_3 16 rfl rfl)
theorem dX3_from_88 : decode cX3_from 88 = .ok (.areturn, 1) := dk_176 (dk_at dksX3_from_3 17 rfl rfl)
abbrev cX3_looks : ByteArray := prog_3_method_4_code
def yX3_looks : MethodName := ⟨RX3, "looks", "(ILSeenInOrderOfAge$Panes;)V"⟩
def dkwX3_looks_4 : List UInt8 := [42, 89, 180, 0, 40, 4, 27, 120, 128, 181, 0, 40, 132, 3, 1, 167, 255, 201, 177]
abbrev dktX3_looks_4 : List UInt8 := dkwX3_looks_4 ++ []
def dkwX3_looks_3 : List UInt8 := [153, 0, 36, 44, 180, 0, 77, 29, 46, 42, 180, 0, 32, 180, 0, 60, 27, 50, 180, 0, 80, 160, 0, 15]
abbrev dktX3_looks_3 : List UInt8 := dkwX3_looks_3 ++ dktX3_looks_4
def dkwX3_looks_2 : List UInt8 := [180, 0, 58, 79, 3, 62, 29, 16, 12, 162, 0, 55, 42, 180, 0, 18, 27, 46, 29, 184, 0, 73]
abbrev dktX3_looks_2 : List UInt8 := dkwX3_looks_2 ++ dktX3_looks_3
def dkwX3_looks_1 : List UInt8 := [180, 0, 12, 42, 180, 0, 32, 27, 182, 0, 64, 182, 0, 67, 79, 42, 180, 0, 22, 27, 42, 180, 0, 12]
abbrev dktX3_looks_1 : List UInt8 := dkwX3_looks_1 ++ dktX3_looks_2
def dkwX3_looks_0 : List UInt8 := [42, 180, 0, 12, 2, 181, 0, 58, 42, 180, 0, 18, 27, 42, 180, 0, 32, 180, 0, 60, 27, 50, 42]
abbrev dktX3_looks_0 : List UInt8 := dkwX3_looks_0 ++ dktX3_looks_1
theorem dksX3_looks_0 : cX3_looks.data.toList.drop 0 = dktX3_looks_0 := by decide +kernel
theorem dksX3_looks_1 : cX3_looks.data.toList.drop 23 = dktX3_looks_1 := dk_seg dksX3_looks_0 23 rfl rfl
theorem dksX3_looks_2 : cX3_looks.data.toList.drop 47 = dktX3_looks_2 := dk_seg dksX3_looks_1 24 rfl rfl
theorem dksX3_looks_3 : cX3_looks.data.toList.drop 69 = dktX3_looks_3 := dk_seg dksX3_looks_2 22 rfl rfl
theorem dksX3_looks_4 : cX3_looks.data.toList.drop 93 = dktX3_looks_4 := dk_seg dksX3_looks_3 24 rfl rfl
theorem dX3_looks_0 : decode cX3_looks 0 = .ok (.aload_n 0, 1) := dk_42 (dk_at dksX3_looks_0 0 rfl rfl)
theorem dX3_looks_1 : decode cX3_looks 1 = .ok (.getfield 12, 3) := dk_180 0 12 (dk_at dksX3_looks_0 1 rfl rfl)
theorem dX3_looks_4 : decode cX3_looks 4 = .ok (.iconst (-1), 1) := dk_2 (dk_at dksX3_looks_0 4 rfl rfl)
theorem dX3_looks_5 : decode cX3_looks 5 = .ok (.putfield 58, 3) := dk_181 0 58 (dk_at dksX3_looks_0 5 rfl rfl)
theorem dX3_looks_8 : decode cX3_looks 8 = .ok (.aload_n 0, 1) := dk_42 (dk_at dksX3_looks_0 8 rfl rfl)
theorem dX3_looks_9 : decode cX3_looks 9 = .ok (.getfield 18, 3) := dk_180 0 18 (dk_at dksX3_looks_0 9 rfl rfl)
theorem dX3_looks_12 : decode cX3_looks 12 = .ok (.iload_n 1, 1) := dk_27 (dk_at dksX3_looks_0 12 rfl rfl)
theorem dX3_looks_13 : decode cX3_looks 13 = .ok (.aload_n 0, 1) := dk_42 (dk_at dksX3_looks_0 13 rfl rfl)
theorem dX3_looks_14 : decode cX3_looks 14 = .ok (.getfield 32, 3) := dk_180 0 32 (dk_at dksX3_looks_0 14 rfl rfl)
theorem dX3_looks_17 : decode cX3_looks 17 = .ok (.getfield 60, 3) := dk_180 0 60 (dk_at dksX3_looks_0 17 rfl rfl)
theorem dX3_looks_20 : decode cX3_looks 20 = .ok (.iload_n 1, 1) := dk_27 (dk_at dksX3_looks_0 20 rfl rfl)
theorem dX3_looks_21 : decode cX3_looks 21 = .ok (.aaload, 1) := dk_50 (dk_at dksX3_looks_0 21 rfl rfl)
theorem dX3_looks_22 : decode cX3_looks 22 = .ok (.aload_n 0, 1) := dk_42 (dk_at dksX3_looks_0 22 rfl rfl)
theorem dX3_looks_23 : decode cX3_looks 23 = .ok (.getfield 12, 3) := dk_180 0 12 (dk_at dksX3_looks_1 0 rfl rfl)
theorem dX3_looks_26 : decode cX3_looks 26 = .ok (.aload_n 0, 1) := dk_42 (dk_at dksX3_looks_1 3 rfl rfl)
theorem dX3_looks_27 : decode cX3_looks 27 = .ok (.getfield 32, 3) := dk_180 0 32 (dk_at dksX3_looks_1 4 rfl rfl)
theorem dX3_looks_30 : decode cX3_looks 30 = .ok (.iload_n 1, 1) := dk_27 (dk_at dksX3_looks_1 7 rfl rfl)
theorem dX3_looks_31 : decode cX3_looks 31 = .ok (.invokevirtual 64, 3) := dk_182 0 64 (dk_at dksX3_looks_1 8 rfl rfl)
theorem dX3_looks_34 : decode cX3_looks 34 = .ok (.invokevirtual 67, 3) := dk_182 0 67 (dk_at dksX3_looks_1 11 rfl rfl)
theorem dX3_looks_37 : decode cX3_looks 37 = .ok (.iastore, 1) := dk_79 (dk_at dksX3_looks_1 14 rfl rfl)
theorem dX3_looks_38 : decode cX3_looks 38 = .ok (.aload_n 0, 1) := dk_42 (dk_at dksX3_looks_1 15 rfl rfl)
theorem dX3_looks_39 : decode cX3_looks 39 = .ok (.getfield 22, 3) := dk_180 0 22 (dk_at dksX3_looks_1 16 rfl rfl)
theorem dX3_looks_42 : decode cX3_looks 42 = .ok (.iload_n 1, 1) := dk_27 (dk_at dksX3_looks_1 19 rfl rfl)
theorem dX3_looks_43 : decode cX3_looks 43 = .ok (.aload_n 0, 1) := dk_42 (dk_at dksX3_looks_1 20 rfl rfl)
theorem dX3_looks_44 : decode cX3_looks 44 = .ok (.getfield 12, 3) := dk_180 0 12 (dk_at dksX3_looks_1 21 rfl rfl)
theorem dX3_looks_47 : decode cX3_looks 47 = .ok (.getfield 58, 3) := dk_180 0 58 (dk_at dksX3_looks_2 0 rfl rfl)
theorem dX3_looks_50 : decode cX3_looks 50 = .ok (.iastore, 1) := dk_79 (dk_at dksX3_looks_2 3 rfl rfl)
theorem dX3_looks_51 : decode cX3_looks 51 = .ok (.iconst 0, 1) := dk_3 (dk_at dksX3_looks_2 4 rfl rfl)
theorem dX3_looks_52 : decode cX3_looks 52 = .ok (.istore_n 3, 1) := dk_62 (dk_at dksX3_looks_2 5 rfl rfl)
theorem dX3_looks_53 : decode cX3_looks 53 = .ok (.iload_n 3, 1) := dk_29 (dk_at dksX3_looks_2 6 rfl rfl)
theorem dX3_looks_54 : decode cX3_looks 54 = .ok (.bipush 12, 2) := dk_16 12 (dk_at dksX3_looks_2 7 rfl rfl)
theorem dX3_looks_56 : decode cX3_looks 56 = .ok (.if_icmp .ge 55, 3) := dk_162 0 55 (dk_at dksX3_looks_2 9 rfl rfl)
theorem dX3_looks_59 : decode cX3_looks 59 = .ok (.aload_n 0, 1) := dk_42 (dk_at dksX3_looks_2 12 rfl rfl)
theorem dX3_looks_60 : decode cX3_looks 60 = .ok (.getfield 18, 3) := dk_180 0 18 (dk_at dksX3_looks_2 13 rfl rfl)
theorem dX3_looks_63 : decode cX3_looks 63 = .ok (.iload_n 1, 1) := dk_27 (dk_at dksX3_looks_2 16 rfl rfl)
theorem dX3_looks_64 : decode cX3_looks 64 = .ok (.iaload, 1) := dk_46 (dk_at dksX3_looks_2 17 rfl rfl)
theorem dX3_looks_65 : decode cX3_looks 65 = .ok (.iload_n 3, 1) := dk_29 (dk_at dksX3_looks_2 18 rfl rfl)
theorem dX3_looks_66 : decode cX3_looks 66 = .ok (.invokestatic 73, 3) := dk_184 0 73 (dk_at dksX3_looks_2 19 rfl rfl)
theorem dX3_looks_69 : decode cX3_looks 69 = .ok (.ifCond .eq 36, 3) := dk_153 0 36 (dk_at dksX3_looks_3 0 rfl rfl)
theorem dX3_looks_72 : decode cX3_looks 72 = .ok (.aload_n 2, 1) := dk_44 (dk_at dksX3_looks_3 3 rfl rfl)
theorem dX3_looks_73 : decode cX3_looks 73 = .ok (.getfield 77, 3) := dk_180 0 77 (dk_at dksX3_looks_3 4 rfl rfl)
theorem dX3_looks_76 : decode cX3_looks 76 = .ok (.iload_n 3, 1) := dk_29 (dk_at dksX3_looks_3 7 rfl rfl)
theorem dX3_looks_77 : decode cX3_looks 77 = .ok (.iaload, 1) := dk_46 (dk_at dksX3_looks_3 8 rfl rfl)
theorem dX3_looks_78 : decode cX3_looks 78 = .ok (.aload_n 0, 1) := dk_42 (dk_at dksX3_looks_3 9 rfl rfl)
theorem dX3_looks_79 : decode cX3_looks 79 = .ok (.getfield 32, 3) := dk_180 0 32 (dk_at dksX3_looks_3 10 rfl rfl)
theorem dX3_looks_82 : decode cX3_looks 82 = .ok (.getfield 60, 3) := dk_180 0 60 (dk_at dksX3_looks_3 13 rfl rfl)
theorem dX3_looks_85 : decode cX3_looks 85 = .ok (.iload_n 1, 1) := dk_27 (dk_at dksX3_looks_3 16 rfl rfl)
theorem dX3_looks_86 : decode cX3_looks 86 = .ok (.aaload, 1) := dk_50 (dk_at dksX3_looks_3 17 rfl rfl)
theorem dX3_looks_87 : decode cX3_looks 87 = .ok (.getfield 80, 3) := dk_180 0 80 (dk_at dksX3_looks_3 18 rfl rfl)
theorem dX3_looks_90 : decode cX3_looks 90 = .ok (.if_icmp .ne 15, 3) := dk_160 0 15 (dk_at dksX3_looks_3 21 rfl rfl)
theorem dX3_looks_93 : decode cX3_looks 93 = .ok (.aload_n 0, 1) := dk_42 (dk_at dksX3_looks_4 0 rfl rfl)
theorem dX3_looks_94 : decode cX3_looks 94 = .ok (.dup, 1) := dk_89 (dk_at dksX3_looks_4 1 rfl rfl)
theorem dX3_looks_95 : decode cX3_looks 95 = .ok (.getfield 40, 3) := dk_180 0 40 (dk_at dksX3_looks_4 2 rfl rfl)
theorem dX3_looks_98 : decode cX3_looks 98 = .ok (.iconst 1, 1) := dk_4 (dk_at dksX3_looks_4 5 rfl rfl)
theorem dX3_looks_99 : decode cX3_looks 99 = .ok (.iload_n 1, 1) := dk_27 (dk_at dksX3_looks_4 6 rfl rfl)
theorem dX3_looks_100 : decode cX3_looks 100 = .ok (.ishl, 1) := dk_120 (dk_at dksX3_looks_4 7 rfl rfl)
theorem dX3_looks_101 : decode cX3_looks 101 = .ok (.ior, 1) := dk_128 (dk_at dksX3_looks_4 8 rfl rfl)
theorem dX3_looks_102 : decode cX3_looks 102 = .ok (.putfield 40, 3) := dk_181 0 40 (dk_at dksX3_looks_4 9 rfl rfl)
theorem dX3_looks_105 : decode cX3_looks 105 = .ok (.iinc 3 1, 3) := dk_132 3 1 (dk_at dksX3_looks_4 12 rfl rfl)
theorem dX3_looks_108 : decode cX3_looks 108 = .ok (.goto (-55), 3) := dk_167 255 201 (dk_at dksX3_looks_4 15 rfl rfl)
theorem dX3_looks_111 : decode cX3_looks 111 = .ok (.return_, 1) := dk_177 (dk_at dksX3_looks_4 18 rfl rfl)
abbrev cX3_left : ByteArray := prog_3_method_5_code
def yX3_left : MethodName := ⟨RX3, "left", "()I"⟩
def dkwX3_left_0 : List UInt8 := [42, 180, 0, 12, 182, 0, 83, 172]
abbrev dktX3_left_0 : List UInt8 := dkwX3_left_0 ++ []
theorem dksX3_left_0 : cX3_left.data.toList.drop 0 = dktX3_left_0 := by decide +kernel
theorem dX3_left_0 : decode cX3_left 0 = .ok (.aload_n 0, 1) := dk_42 (dk_at dksX3_left_0 0 rfl rfl)
theorem dX3_left_1 : decode cX3_left 1 = .ok (.getfield 12, 3) := dk_180 0 12 (dk_at dksX3_left_0 1 rfl rfl)
theorem dX3_left_4 : decode cX3_left 4 = .ok (.invokevirtual 83, 3) := dk_182 0 83 (dk_at dksX3_left_0 4 rfl rfl)
theorem dX3_left_7 : decode cX3_left 7 = .ok (.ireturn, 1) := dk_172 (dk_at dksX3_left_0 7 rfl rfl)
abbrev cX3_many : ByteArray := prog_3_method_6_code
def yX3_many : MethodName := ⟨RX3, "many", "()I"⟩
def dkwX3_many_0 : List UInt8 := [42, 180, 0, 40, 184, 0, 87, 172]
abbrev dktX3_many_0 : List UInt8 := dkwX3_many_0 ++ []
theorem dksX3_many_0 : cX3_many.data.toList.drop 0 = dktX3_many_0 := by decide +kernel
theorem dX3_many_0 : decode cX3_many 0 = .ok (.aload_n 0, 1) := dk_42 (dk_at dksX3_many_0 0 rfl rfl)
theorem dX3_many_1 : decode cX3_many 1 = .ok (.getfield 40, 3) := dk_180 0 40 (dk_at dksX3_many_0 1 rfl rfl)
theorem dX3_many_4 : decode cX3_many 4 = .ok (.invokestatic 87, 3) := dk_184 0 87 (dk_at dksX3_many_0 4 rfl rfl)
theorem dX3_many_7 : decode cX3_many 7 = .ok (.ireturn, 1) := dk_172 (dk_at dksX3_many_0 7 rfl rfl)
abbrev cX3_empty : ByteArray := prog_3_method_7_code
def yX3_empty : MethodName := ⟨RX3, "empty", "(I)I"⟩
def dkwX3_empty_1 : List UInt8 := [46, 154, 0, 9, 4, 29, 120, 167, 0, 4, 3, 128, 61, 132, 3, 1, 167, 255, 220, 28, 172]
abbrev dktX3_empty_1 : List UInt8 := dkwX3_empty_1 ++ []
def dkwX3_empty_0 : List UInt8 := [3, 61, 3, 62, 29, 16, 8, 162, 0, 36, 28, 27, 29, 184, 0, 73, 153, 0, 18, 42, 180, 0, 18, 29]
abbrev dktX3_empty_0 : List UInt8 := dkwX3_empty_0 ++ dktX3_empty_1
theorem dksX3_empty_0 : cX3_empty.data.toList.drop 0 = dktX3_empty_0 := by decide +kernel
theorem dksX3_empty_1 : cX3_empty.data.toList.drop 24 = dktX3_empty_1 := dk_seg dksX3_empty_0 24 rfl rfl
theorem dX3_empty_0 : decode cX3_empty 0 = .ok (.iconst 0, 1) := dk_3 (dk_at dksX3_empty_0 0 rfl rfl)
theorem dX3_empty_1 : decode cX3_empty 1 = .ok (.istore_n 2, 1) := dk_61 (dk_at dksX3_empty_0 1 rfl rfl)
theorem dX3_empty_2 : decode cX3_empty 2 = .ok (.iconst 0, 1) := dk_3 (dk_at dksX3_empty_0 2 rfl rfl)
theorem dX3_empty_3 : decode cX3_empty 3 = .ok (.istore_n 3, 1) := dk_62 (dk_at dksX3_empty_0 3 rfl rfl)
theorem dX3_empty_4 : decode cX3_empty 4 = .ok (.iload_n 3, 1) := dk_29 (dk_at dksX3_empty_0 4 rfl rfl)
theorem dX3_empty_5 : decode cX3_empty 5 = .ok (.bipush 8, 2) := dk_16 8 (dk_at dksX3_empty_0 5 rfl rfl)
theorem dX3_empty_7 : decode cX3_empty 7 = .ok (.if_icmp .ge 36, 3) := dk_162 0 36 (dk_at dksX3_empty_0 7 rfl rfl)
theorem dX3_empty_10 : decode cX3_empty 10 = .ok (.iload_n 2, 1) := dk_28 (dk_at dksX3_empty_0 10 rfl rfl)
theorem dX3_empty_11 : decode cX3_empty 11 = .ok (.iload_n 1, 1) := dk_27 (dk_at dksX3_empty_0 11 rfl rfl)
theorem dX3_empty_12 : decode cX3_empty 12 = .ok (.iload_n 3, 1) := dk_29 (dk_at dksX3_empty_0 12 rfl rfl)
theorem dX3_empty_13 : decode cX3_empty 13 = .ok (.invokestatic 73, 3) := dk_184 0 73 (dk_at dksX3_empty_0 13 rfl rfl)
theorem dX3_empty_16 : decode cX3_empty 16 = .ok (.ifCond .eq 18, 3) := dk_153 0 18 (dk_at dksX3_empty_0 16 rfl rfl)
theorem dX3_empty_19 : decode cX3_empty 19 = .ok (.aload_n 0, 1) := dk_42 (dk_at dksX3_empty_0 19 rfl rfl)
theorem dX3_empty_20 : decode cX3_empty 20 = .ok (.getfield 18, 3) := dk_180 0 18 (dk_at dksX3_empty_0 20 rfl rfl)
theorem dX3_empty_23 : decode cX3_empty 23 = .ok (.iload_n 3, 1) := dk_29 (dk_at dksX3_empty_0 23 rfl rfl)
theorem dX3_empty_24 : decode cX3_empty 24 = .ok (.iaload, 1) := dk_46 (dk_at dksX3_empty_1 0 rfl rfl)
theorem dX3_empty_25 : decode cX3_empty 25 = .ok (.ifCond .ne 9, 3) := dk_154 0 9 (dk_at dksX3_empty_1 1 rfl rfl)
theorem dX3_empty_28 : decode cX3_empty 28 = .ok (.iconst 1, 1) := dk_4 (dk_at dksX3_empty_1 4 rfl rfl)
theorem dX3_empty_29 : decode cX3_empty 29 = .ok (.iload_n 3, 1) := dk_29 (dk_at dksX3_empty_1 5 rfl rfl)
theorem dX3_empty_30 : decode cX3_empty 30 = .ok (.ishl, 1) := dk_120 (dk_at dksX3_empty_1 6 rfl rfl)
theorem dX3_empty_31 : decode cX3_empty 31 = .ok (.goto 4, 3) := dk_167 0 4 (dk_at dksX3_empty_1 7 rfl rfl)
theorem dX3_empty_34 : decode cX3_empty 34 = .ok (.iconst 0, 1) := dk_3 (dk_at dksX3_empty_1 10 rfl rfl)
theorem dX3_empty_35 : decode cX3_empty 35 = .ok (.ior, 1) := dk_128 (dk_at dksX3_empty_1 11 rfl rfl)
theorem dX3_empty_36 : decode cX3_empty 36 = .ok (.istore_n 2, 1) := dk_61 (dk_at dksX3_empty_1 12 rfl rfl)
theorem dX3_empty_37 : decode cX3_empty 37 = .ok (.iinc 3 1, 3) := dk_132 3 1 (dk_at dksX3_empty_1 13 rfl rfl)
theorem dX3_empty_40 : decode cX3_empty 40 = .ok (.goto (-36), 3) := dk_167 255 220 (dk_at dksX3_empty_1 16 rfl rfl)
theorem dX3_empty_43 : decode cX3_empty 43 = .ok (.iload_n 2, 1) := dk_28 (dk_at dksX3_empty_1 19 rfl rfl)
theorem dX3_empty_44 : decode cX3_empty 44 = .ok (.ireturn, 1) := dk_172 (dk_at dksX3_empty_1 20 rfl rfl)
theorem q87 : (Jvm.Cond.initialized "SeenInOrderOfAge$Evening") ∈ lw_all := lw_g (lw_at lw_m1 5 rfl) rfl
theorem q144 : (Jvm.Cond.fieldLink "SeenInOrderOfAge$Evening" (77 : Nat) "SeenInOrderOfAge$Panes" "sort" "[I") ∈ lw_all := lw_g (lw_at lw_m1 62 rfl) rfl
theorem q147 : (Jvm.Cond.fieldLink "SeenInOrderOfAge$Evening" (58 : Nat) "SeenInOrderOfAge$Panes" "first" "I") ∈ lw_all := lw_g (lw_at lw_m1 65 rfl) rfl
theorem q158 : (Jvm.Cond.fieldLink "SeenInOrderOfAge$Evening" (25 : Nat) "SeenInOrderOfAge$Window" "panes" "LSeenInOrderOfAge$Panes;") ∈ lw_all := lw_g (lw_at lw_m1 76 rfl) rfl
theorem q162 : (Jvm.Cond.fieldLink "SeenInOrderOfAge$Evening" (60 : Nat) "SeenInOrderOfAge$Window" "looker" "[LSeenInOrderOfAge$Looker;") ∈ lw_all := lw_g (lw_at lw_m1 80 rfl) rfl
theorem q208 : (Jvm.Cond.instantiable "SeenInOrderOfAge$Evening" (5 : Nat)) ∈ lw_all := lw_g (lw_at lw_m1 126 rfl) rfl
theorem q210 : (Jvm.Cond.instanceMethod ({ cls := "SeenInOrderOfAge$Evening", name := "<init>", desc := "()V" } : Jvm.MethodName)) ∈ lw_all := lw_g (lw_at lw_m1 128 rfl) rfl
theorem q211 : (Jvm.Cond.code ({ cls := "SeenInOrderOfAge$Evening", name := "<init>", desc := "()V" } : Jvm.MethodName) prog_3_method_1_code (1 : Nat) (Option.none : Option Jvm.ClassFile.FieldType)) ∈ lw_all := lw_g (lw_at lw_m1 129 rfl) rfl
theorem q212 : (Jvm.Cond.methodLink "SeenInOrderOfAge$Evening" (3 : Nat) ({ cls := "java/lang/Object", name := "<init>", desc := "()V" } : Jvm.MethodName)) ∈ lw_all := lw_g (lw_at lw_m1 130 rfl) rfl
theorem q213 : (Jvm.Cond.classLink "SeenInOrderOfAge$Evening" (9 : Nat) "SeenInOrderOfAge$Panes") ∈ lw_all := lw_g (lw_at lw_m1 131 rfl) rfl
theorem q214 : (Jvm.Cond.methodLink "SeenInOrderOfAge$Evening" (11 : Nat) ({ cls := "SeenInOrderOfAge$Panes", name := "<init>", desc := "()V" } : Jvm.MethodName)) ∈ lw_all := lw_g (lw_at lw_m1 132 rfl) rfl
theorem q215 : (Jvm.Cond.fieldLink "SeenInOrderOfAge$Evening" (12 : Nat) "SeenInOrderOfAge$Evening" "panes" "LSeenInOrderOfAge$Panes;") ∈ lw_all := lw_g (lw_at lw_m1 133 rfl) rfl
theorem q217 : (Jvm.Cond.fieldLink "SeenInOrderOfAge$Evening" (18 : Nat) "SeenInOrderOfAge$Evening" "taken" "[I") ∈ lw_all := lw_g (lw_at lw_m1 135 rfl) rfl
theorem q219 : (Jvm.Cond.fieldLink "SeenInOrderOfAge$Evening" (22 : Nat) "SeenInOrderOfAge$Evening" "first" "[I") ∈ lw_all := lw_g (lw_at lw_m1 137 rfl) rfl
theorem q221 : (Jvm.Cond.fieldLink "SeenInOrderOfAge$Evening" (32 : Nat) "SeenInOrderOfAge$Evening" "window" "LSeenInOrderOfAge$Window;") ∈ lw_all := lw_g (lw_at lw_m1 139 rfl) rfl
theorem q222 : (Jvm.Cond.fieldLink "SeenInOrderOfAge$Evening" (40 : Nat) "SeenInOrderOfAge$Evening" "glad" "I") ∈ lw_all := lw_g (lw_at lw_m1 140 rfl) rfl
theorem q224 : (Jvm.Cond.laysFinal "SeenInOrderOfAge$Evening" "SeenInOrderOfAge$Evening" "panes" "LSeenInOrderOfAge$Panes;") ∈ lw_all := lw_g (lw_at lw_m1 142 rfl) rfl
theorem q225 : (Jvm.Cond.soleField "SeenInOrderOfAge$Evening" "panes") ∈ lw_all := lw_g (lw_at lw_m1 143 rfl) rfl
theorem q226 : (Jvm.Cond.laysFinal "SeenInOrderOfAge$Evening" "SeenInOrderOfAge$Evening" "taken" "[I") ∈ lw_all := lw_g (lw_at lw_m1 144 rfl) rfl
theorem q227 : (Jvm.Cond.soleField "SeenInOrderOfAge$Evening" "taken") ∈ lw_all := lw_g (lw_at lw_m1 145 rfl) rfl
theorem q228 : (Jvm.Cond.laysFinal "SeenInOrderOfAge$Evening" "SeenInOrderOfAge$Evening" "first" "[I") ∈ lw_all := lw_g (lw_at lw_m1 146 rfl) rfl
theorem q229 : (Jvm.Cond.soleField "SeenInOrderOfAge$Evening" "first") ∈ lw_all := lw_g (lw_at lw_m1 147 rfl) rfl
theorem q230 : (Jvm.Cond.lays "SeenInOrderOfAge$Evening" "SeenInOrderOfAge$Evening" "window" "LSeenInOrderOfAge$Window;") ∈ lw_all := lw_g (lw_at lw_m1 148 rfl) rfl
theorem q231 : (Jvm.Cond.soleField "SeenInOrderOfAge$Evening" "window") ∈ lw_all := lw_g (lw_at lw_m1 149 rfl) rfl
theorem q232 : (Jvm.Cond.lays "SeenInOrderOfAge$Evening" "SeenInOrderOfAge$Evening" "glad" "I") ∈ lw_all := lw_g (lw_at lw_m1 150 rfl) rfl
theorem q233 : (Jvm.Cond.soleField "SeenInOrderOfAge$Evening" "glad") ∈ lw_all := lw_g (lw_at lw_m1 151 rfl) rfl
theorem q234 : (Jvm.Cond.superclass "SeenInOrderOfAge$Evening" "java/lang/Object") ∈ lw_all := lw_g (lw_at lw_m1 152 rfl) rfl
theorem q548 : (Jvm.Cond.instanceMethod ({ cls := "SeenInOrderOfAge$Evening", name := "of", desc := "(LSeenInOrderOfAge$Window;I)LSeenInOrderOfAge$Evening;" } : Jvm.MethodName)) ∈ lw_all := lw_g (lw_at lw_m2 226 rfl) rfl
theorem q549 : (Jvm.Cond.selects "SeenInOrderOfAge$Evening" ({ cls := "SeenInOrderOfAge$Evening", name := "of", desc := "(LSeenInOrderOfAge$Window;I)LSeenInOrderOfAge$Evening;" } : Jvm.MethodName) ({ cls := "SeenInOrderOfAge$Evening", name := "of", desc := "(LSeenInOrderOfAge$Window;I)LSeenInOrderOfAge$Evening;" } : Jvm.MethodName)) ∈ lw_all := lw_g (lw_at lw_m2 227 rfl) rfl
theorem q550 : (Jvm.Cond.code ({ cls := "SeenInOrderOfAge$Evening", name := "of", desc := "(LSeenInOrderOfAge$Window;I)LSeenInOrderOfAge$Evening;" } : Jvm.MethodName) prog_3_method_2_code (3 : Nat) (Option.some (Jvm.ClassFile.FieldType.object "SeenInOrderOfAge$Evening"))) ∈ lw_all := lw_g (lw_at lw_m2 228 rfl) rfl
theorem q551 : (Jvm.Cond.methodLink "SeenInOrderOfAge$Evening" (28 : Nat) ({ cls := "SeenInOrderOfAge$Evening", name := "from", desc := "(LSeenInOrderOfAge$Window;LSeenInOrderOfAge$Panes;I)LSeenInOrderOfAge$Evening;" } : Jvm.MethodName)) ∈ lw_all := lw_g (lw_at lw_m2 229 rfl) rfl
theorem q552 : (Jvm.Cond.instanceMethod ({ cls := "SeenInOrderOfAge$Evening", name := "from", desc := "(LSeenInOrderOfAge$Window;LSeenInOrderOfAge$Panes;I)LSeenInOrderOfAge$Evening;" } : Jvm.MethodName)) ∈ lw_all := lw_g (lw_at lw_m2 230 rfl) rfl
theorem q553 : (Jvm.Cond.selects "SeenInOrderOfAge$Evening" ({ cls := "SeenInOrderOfAge$Evening", name := "from", desc := "(LSeenInOrderOfAge$Window;LSeenInOrderOfAge$Panes;I)LSeenInOrderOfAge$Evening;" } : Jvm.MethodName) ({ cls := "SeenInOrderOfAge$Evening", name := "from", desc := "(LSeenInOrderOfAge$Window;LSeenInOrderOfAge$Panes;I)LSeenInOrderOfAge$Evening;" } : Jvm.MethodName)) ∈ lw_all := lw_g (lw_at lw_m2 231 rfl) rfl
theorem q554 : (Jvm.Cond.code ({ cls := "SeenInOrderOfAge$Evening", name := "from", desc := "(LSeenInOrderOfAge$Window;LSeenInOrderOfAge$Panes;I)LSeenInOrderOfAge$Evening;" } : Jvm.MethodName) prog_3_method_3_code (6 : Nat) (Option.some (Jvm.ClassFile.FieldType.object "SeenInOrderOfAge$Evening"))) ∈ lw_all := lw_g (lw_at lw_m2 232 rfl) rfl
theorem q555 : (Jvm.Cond.methodLink "SeenInOrderOfAge$Evening" (36 : Nat) ({ cls := "SeenInOrderOfAge$Panes", name := "becomes", desc := "(LSeenInOrderOfAge$Panes;)LSeenInOrderOfAge$Panes;" } : Jvm.MethodName)) ∈ lw_all := lw_g (lw_at lw_m2 233 rfl) rfl
theorem q560 : (Jvm.Cond.methodLink "SeenInOrderOfAge$Evening" (44 : Nat) ({ cls := "java/util/Arrays", name := "fill", desc := "([II)V" } : Jvm.MethodName)) ∈ lw_all := lw_g (lw_at lw_m2 238 rfl) rfl
theorem q561 : (Jvm.Cond.methodLink "SeenInOrderOfAge$Evening" (50 : Nat) ({ cls := "SeenInOrderOfAge$Window", name := "next", desc := "(I)I" } : Jvm.MethodName)) ∈ lw_all := lw_g (lw_at lw_m2 239 rfl) rfl
theorem q568 : (Jvm.Cond.methodLink "SeenInOrderOfAge$Evening" (54 : Nat) ({ cls := "SeenInOrderOfAge$Evening", name := "looks", desc := "(ILSeenInOrderOfAge$Panes;)V" } : Jvm.MethodName)) ∈ lw_all := lw_g (lw_at lw_m3 6 rfl) rfl
theorem q569 : (Jvm.Cond.privateMethod ({ cls := "SeenInOrderOfAge$Evening", name := "looks", desc := "(ILSeenInOrderOfAge$Panes;)V" } : Jvm.MethodName)) ∈ lw_tbl := lw_at lw_m3 7 rfl
theorem q570 : (Jvm.Cond.instanceMethod ({ cls := "SeenInOrderOfAge$Evening", name := "looks", desc := "(ILSeenInOrderOfAge$Panes;)V" } : Jvm.MethodName)) ∈ lw_all := lw_g (lw_at lw_m3 8 rfl) rfl
theorem q571 : (Jvm.Cond.code ({ cls := "SeenInOrderOfAge$Evening", name := "looks", desc := "(ILSeenInOrderOfAge$Panes;)V" } : Jvm.MethodName) prog_3_method_4_code (4 : Nat) (Option.none : Option Jvm.ClassFile.FieldType)) ∈ lw_all := lw_g (lw_at lw_m3 9 rfl) rfl
theorem q572 : (Jvm.Cond.methodLink "SeenInOrderOfAge$Evening" (64 : Nat) ({ cls := "SeenInOrderOfAge$Window", name := "liked", desc := "(I)I" } : Jvm.MethodName)) ∈ lw_all := lw_g (lw_at lw_m3 10 rfl) rfl
theorem q576 : (Jvm.Cond.methodLink "SeenInOrderOfAge$Evening" (67 : Nat) ({ cls := "SeenInOrderOfAge$Looker", name := "takes", desc := "(LSeenInOrderOfAge$Panes;I)I" } : Jvm.MethodName)) ∈ lw_all := lw_g (lw_at lw_m3 14 rfl) rfl
theorem q642 : (Jvm.Cond.methodLinkNest "SeenInOrderOfAge$Evening" (73 : Nat) ({ cls := "SeenInOrderOfAge", name := "has", desc := "(II)Z" } : Jvm.MethodName) "SeenInOrderOfAge") ∈ lw_tbl := lw_at lw_m3 80 rfl
theorem q678 : (Jvm.Cond.fieldLink "SeenInOrderOfAge$Evening" (80 : Nat) "SeenInOrderOfAge$Looker" "a" "I") ∈ lw_all := lw_g (lw_at lw_m3 116 rfl) rfl
theorem q1228 : (Jvm.Cond.instanceMethod ({ cls := "SeenInOrderOfAge$Evening", name := "left", desc := "()I" } : Jvm.MethodName)) ∈ lw_all := lw_g (lw_at lw_m5 186 rfl) rfl
theorem q1229 : (Jvm.Cond.selects "SeenInOrderOfAge$Evening" ({ cls := "SeenInOrderOfAge$Evening", name := "left", desc := "()I" } : Jvm.MethodName) ({ cls := "SeenInOrderOfAge$Evening", name := "left", desc := "()I" } : Jvm.MethodName)) ∈ lw_all := lw_g (lw_at lw_m5 187 rfl) rfl
theorem q1230 : (Jvm.Cond.code ({ cls := "SeenInOrderOfAge$Evening", name := "left", desc := "()I" } : Jvm.MethodName) prog_3_method_5_code (1 : Nat) (Option.some Jvm.ClassFile.FieldType.int)) ∈ lw_all := lw_g (lw_at lw_m5 188 rfl) rfl
theorem q1231 : (Jvm.Cond.methodLink "SeenInOrderOfAge$Evening" (83 : Nat) ({ cls := "SeenInOrderOfAge$Panes", name := "things", desc := "()I" } : Jvm.MethodName)) ∈ lw_all := lw_g (lw_at lw_m5 189 rfl) rfl
theorem q1244 : (Jvm.Cond.instanceMethod ({ cls := "SeenInOrderOfAge$Evening", name := "many", desc := "()I" } : Jvm.MethodName)) ∈ lw_all := lw_g (lw_at lw_m5 202 rfl) rfl
theorem q1245 : (Jvm.Cond.selects "SeenInOrderOfAge$Evening" ({ cls := "SeenInOrderOfAge$Evening", name := "many", desc := "()I" } : Jvm.MethodName) ({ cls := "SeenInOrderOfAge$Evening", name := "many", desc := "()I" } : Jvm.MethodName)) ∈ lw_all := lw_g (lw_at lw_m5 203 rfl) rfl
theorem q1246 : (Jvm.Cond.code ({ cls := "SeenInOrderOfAge$Evening", name := "many", desc := "()I" } : Jvm.MethodName) prog_3_method_6_code (1 : Nat) (Option.some Jvm.ClassFile.FieldType.int)) ∈ lw_all := lw_g (lw_at lw_m5 204 rfl) rfl
theorem q1247 : (Jvm.Cond.methodLink "SeenInOrderOfAge$Evening" (87 : Nat) ({ cls := "java/lang/Integer", name := "bitCount", desc := "(I)I" } : Jvm.MethodName)) ∈ lw_all := lw_g (lw_at lw_m5 205 rfl) rfl
theorem q1254 : (Jvm.Cond.instanceMethod ({ cls := "SeenInOrderOfAge$Evening", name := "empty", desc := "(I)I" } : Jvm.MethodName)) ∈ lw_all := lw_g (lw_at lw_m5 212 rfl) rfl
theorem q1255 : (Jvm.Cond.selects "SeenInOrderOfAge$Evening" ({ cls := "SeenInOrderOfAge$Evening", name := "empty", desc := "(I)I" } : Jvm.MethodName) ({ cls := "SeenInOrderOfAge$Evening", name := "empty", desc := "(I)I" } : Jvm.MethodName)) ∈ lw_all := lw_g (lw_at lw_m5 213 rfl) rfl
theorem q1256 : (Jvm.Cond.code ({ cls := "SeenInOrderOfAge$Evening", name := "empty", desc := "(I)I" } : Jvm.MethodName) prog_3_method_7_code (4 : Nat) (Option.some Jvm.ClassFile.FieldType.int)) ∈ lw_all := lw_g (lw_at lw_m5 214 rfl) rfl

/-! X4 -/
abbrev cX4_init : ByteArray := prog_13_method_1_code
def yX4_init : MethodName := ⟨RX4, "<init>", "()V"⟩
theorem dX4_init_0 : decode cX4_init 0 = .ok (.aload_n 0, 1) := by decide +kernel
theorem dX4_init_1 : decode cX4_init 1 = .ok (.invokespecial 1, 3) := by decide +kernel
theorem dX4_init_4 : decode cX4_init 4 = .ok (.return_, 1) := by decide +kernel
theorem q88 : (Jvm.Cond.initialized "SeenInOrderOfAge$Sheet") ∈ lw_all := lw_g (lw_at lw_m1 6 rfl) rfl
theorem q237 : (Jvm.Cond.instantiable "SeenInOrderOfAge$Sheet" (1 : Nat)) ∈ lw_all := lw_g (lw_at lw_m1 155 rfl) rfl
theorem q239 : (Jvm.Cond.instanceMethod ({ cls := "SeenInOrderOfAge$Sheet", name := "<init>", desc := "()V" } : Jvm.MethodName)) ∈ lw_all := lw_g (lw_at lw_m1 157 rfl) rfl
theorem q240 : (Jvm.Cond.code ({ cls := "SeenInOrderOfAge$Sheet", name := "<init>", desc := "()V" } : Jvm.MethodName) prog_13_method_1_code (1 : Nat) (Option.none : Option Jvm.ClassFile.FieldType)) ∈ lw_all := lw_g (lw_at lw_m1 158 rfl) rfl
theorem q241 : (Jvm.Cond.methodLink "SeenInOrderOfAge$Sheet" (1 : Nat) ({ cls := "java/lang/Object", name := "<init>", desc := "()V" } : Jvm.MethodName)) ∈ lw_all := lw_g (lw_at lw_m1 159 rfl) rfl
theorem q243 : (Jvm.Cond.lays "SeenInOrderOfAge$Sheet" "SeenInOrderOfAge$Sheet" "held" "Ljava/lang/Object;") ∈ lw_all := lw_g (lw_at lw_m1 161 rfl) rfl
theorem q244 : (Jvm.Cond.soleField "SeenInOrderOfAge$Sheet" "held") ∈ lw_all := lw_g (lw_at lw_m1 162 rfl) rfl
theorem q245 : (Jvm.Cond.superclass "SeenInOrderOfAge$Sheet" "java/lang/Object") ∈ lw_all := lw_g (lw_at lw_m1 163 rfl) rfl

/-! X6 -/
abbrev cX6_init : ByteArray := prog_12_method_1_code
def yX6_init : MethodName := ⟨RX6, "<init>", "(I)V"⟩
def dkwX6_init_0 : List UInt8 := [42, 1, 1, 3, 3, 183, 0, 1, 42, 27, 181, 0, 7, 177]
abbrev dktX6_init_0 : List UInt8 := dkwX6_init_0 ++ []
theorem dksX6_init_0 : cX6_init.data.toList.drop 0 = dktX6_init_0 := by decide +kernel
theorem dX6_init_0 : decode cX6_init 0 = .ok (.aload_n 0, 1) := dk_42 (dk_at dksX6_init_0 0 rfl rfl)
theorem dX6_init_1 : decode cX6_init 1 = .ok (.aconst_null, 1) := dk_1 (dk_at dksX6_init_0 1 rfl rfl)
theorem dX6_init_2 : decode cX6_init 2 = .ok (.aconst_null, 1) := dk_1 (dk_at dksX6_init_0 2 rfl rfl)
theorem dX6_init_3 : decode cX6_init 3 = .ok (.iconst 0, 1) := dk_3 (dk_at dksX6_init_0 3 rfl rfl)
theorem dX6_init_4 : decode cX6_init 4 = .ok (.iconst 0, 1) := dk_3 (dk_at dksX6_init_0 4 rfl rfl)
theorem dX6_init_5 : decode cX6_init 5 = .ok (.invokespecial 1, 3) := dk_183 0 1 (dk_at dksX6_init_0 5 rfl rfl)
theorem dX6_init_8 : decode cX6_init 8 = .ok (.aload_n 0, 1) := dk_42 (dk_at dksX6_init_0 8 rfl rfl)
theorem dX6_init_9 : decode cX6_init 9 = .ok (.iload_n 1, 1) := dk_27 (dk_at dksX6_init_0 9 rfl rfl)
theorem dX6_init_10 : decode cX6_init 10 = .ok (.putfield 7, 3) := dk_181 0 7 (dk_at dksX6_init_0 10 rfl rfl)
theorem dX6_init_13 : decode cX6_init 13 = .ok (.return_, 1) := dk_177 (dk_at dksX6_init_0 13 rfl rfl)
theorem q97 : (Jvm.Cond.initialized "SeenInOrderOfAge$Refused") ∈ lw_all := lw_g (lw_at lw_m1 15 rfl) rfl
theorem q309 : (Jvm.Cond.selects "SeenInOrderOfAge$Refused" ({ cls := "java/lang/Throwable", name := "fillInStackTrace", desc := "()Ljava/lang/Throwable;" } : Jvm.MethodName) ({ cls := "java/lang/Throwable", name := "fillInStackTrace", desc := "()Ljava/lang/Throwable;" } : Jvm.MethodName)) ∈ lw_all := lw_g (lw_at lw_m1 227 rfl) rfl
theorem q420 : (Jvm.Cond.instantiable "SeenInOrderOfAge$Refused" (7 : Nat)) ∈ lw_all := lw_g (lw_at lw_m2 98 rfl) rfl
theorem q421 : (Jvm.Cond.castable "SeenInOrderOfAge$Refused" "SeenInOrderOfAge$Refused") ∈ lw_tbl := lw_at lw_m2 99 rfl
theorem q422 : (Jvm.Cond.selects "SeenInOrderOfAge$Refused" ({ cls := "java/lang/Throwable", name := "fillInStackTrace", desc := "(I)Ljava/lang/Throwable;" } : Jvm.MethodName) ({ cls := "java/lang/Throwable", name := "fillInStackTrace", desc := "(I)Ljava/lang/Throwable;" } : Jvm.MethodName)) ∈ lw_all := lw_g (lw_at lw_m2 100 rfl) rfl
theorem q423 : (Jvm.Cond.lays "SeenInOrderOfAge$Refused" "java/lang/Throwable" "cause" "Ljava/lang/Throwable;") ∈ lw_all := lw_g (lw_at lw_m2 101 rfl) rfl
theorem q424 : (Jvm.Cond.lays "SeenInOrderOfAge$Refused" "java/lang/Throwable" "stackTrace" "[Ljava/lang/StackTraceElement;") ∈ lw_all := lw_g (lw_at lw_m2 102 rfl) rfl
theorem q425 : (Jvm.Cond.lays "SeenInOrderOfAge$Refused" "java/lang/Throwable" "suppressedExceptions" "Ljava/util/List;") ∈ lw_all := lw_g (lw_at lw_m2 103 rfl) rfl
theorem q426 : (Jvm.Cond.lays "SeenInOrderOfAge$Refused" "java/lang/Throwable" "detailMessage" "Ljava/lang/String;") ∈ lw_all := lw_g (lw_at lw_m2 104 rfl) rfl
theorem q427 : (Jvm.Cond.lays "SeenInOrderOfAge$Refused" "java/lang/Throwable" "backtrace" "Ljava/lang/Object;") ∈ lw_all := lw_g (lw_at lw_m2 105 rfl) rfl
theorem q429 : (Jvm.Cond.instanceMethod ({ cls := "SeenInOrderOfAge$Refused", name := "<init>", desc := "(I)V" } : Jvm.MethodName)) ∈ lw_all := lw_g (lw_at lw_m2 107 rfl) rfl
theorem q430 : (Jvm.Cond.code ({ cls := "SeenInOrderOfAge$Refused", name := "<init>", desc := "(I)V" } : Jvm.MethodName) prog_12_method_1_code (2 : Nat) (Option.none : Option Jvm.ClassFile.FieldType)) ∈ lw_all := lw_g (lw_at lw_m2 108 rfl) rfl
theorem q431 : (Jvm.Cond.methodLink "SeenInOrderOfAge$Refused" (1 : Nat) ({ cls := "java/lang/RuntimeException", name := "<init>", desc := "(Ljava/lang/String;Ljava/lang/Throwable;ZZ)V" } : Jvm.MethodName)) ∈ lw_all := lw_g (lw_at lw_m2 109 rfl) rfl
theorem q440 : (Jvm.Cond.fieldLink "SeenInOrderOfAge$Refused" (7 : Nat) "SeenInOrderOfAge$Refused" "by" "I") ∈ lw_all := lw_g (lw_at lw_m2 118 rfl) rfl
theorem q442 : (Jvm.Cond.laysFinal "SeenInOrderOfAge$Refused" "SeenInOrderOfAge$Refused" "by" "I") ∈ lw_all := lw_g (lw_at lw_m2 120 rfl) rfl
theorem q443 : (Jvm.Cond.soleField "SeenInOrderOfAge$Refused" "by") ∈ lw_all := lw_g (lw_at lw_m2 121 rfl) rfl
theorem q444 : (Jvm.Cond.lays "SeenInOrderOfAge$Refused" "java/lang/Throwable" "depth" "I") ∈ lw_all := lw_g (lw_at lw_m2 122 rfl) rfl
theorem q445 : (Jvm.Cond.superclass "SeenInOrderOfAge$Refused" "java/lang/RuntimeException") ∈ lw_all := lw_g (lw_at lw_m2 123 rfl) rfl

/-! X7 -/
abbrev cX7_takes : ByteArray := prog_7_method_4_code
def yX7_takes : MethodName := ⟨RX7, "takes", "(LSeenInOrderOfAge$Panes;I)I"⟩
def dkwX7_takes_0 : List UInt8 := [42, 43, 28, 182, 0, 27, 172]
abbrev dktX7_takes_0 : List UInt8 := dkwX7_takes_0 ++ []
theorem dksX7_takes_0 : cX7_takes.data.toList.drop 0 = dktX7_takes_0 := by decide +kernel
theorem dX7_takes_0 : decode cX7_takes 0 = .ok (.aload_n 0, 1) := dk_42 (dk_at dksX7_takes_0 0 rfl rfl)
theorem dX7_takes_1 : decode cX7_takes 1 = .ok (.aload_n 1, 1) := dk_43 (dk_at dksX7_takes_0 1 rfl rfl)
theorem dX7_takes_2 : decode cX7_takes 2 = .ok (.iload_n 2, 1) := dk_28 (dk_at dksX7_takes_0 2 rfl rfl)
theorem dX7_takes_3 : decode cX7_takes 3 = .ok (.invokevirtual 27, 3) := dk_182 0 27 (dk_at dksX7_takes_0 3 rfl rfl)
theorem dX7_takes_6 : decode cX7_takes 6 = .ok (.ireturn, 1) := dk_172 (dk_at dksX7_takes_0 6 rfl rfl)
abbrev cX7_one : ByteArray := prog_7_method_3_code
def yX7_one : MethodName := ⟨RX7, "one", "(LSeenInOrderOfAge$Panes;I)I"⟩
def dkwX7_one_1 : List UInt8 := [182, 0, 18, 182, 0, 24, 172]
abbrev dktX7_one_1 : List UInt8 := dkwX7_one_1 ++ []
def dkwX7_one_0 : List UInt8 := [43, 4, 42, 180, 0, 15, 120, 182, 0, 18, 62, 43, 29, 2, 159, 0, 7, 29, 167, 0, 8, 43, 28]
abbrev dktX7_one_0 : List UInt8 := dkwX7_one_0 ++ dktX7_one_1
theorem dksX7_one_0 : cX7_one.data.toList.drop 0 = dktX7_one_0 := by decide +kernel
theorem dksX7_one_1 : cX7_one.data.toList.drop 23 = dktX7_one_1 := dk_seg dksX7_one_0 23 rfl rfl
theorem dX7_one_0 : decode cX7_one 0 = .ok (.aload_n 1, 1) := dk_43 (dk_at dksX7_one_0 0 rfl rfl)
theorem dX7_one_1 : decode cX7_one 1 = .ok (.iconst 1, 1) := dk_4 (dk_at dksX7_one_0 1 rfl rfl)
theorem dX7_one_2 : decode cX7_one 2 = .ok (.aload_n 0, 1) := dk_42 (dk_at dksX7_one_0 2 rfl rfl)
theorem dX7_one_3 : decode cX7_one 3 = .ok (.getfield 15, 3) := dk_180 0 15 (dk_at dksX7_one_0 3 rfl rfl)
theorem dX7_one_6 : decode cX7_one 6 = .ok (.ishl, 1) := dk_120 (dk_at dksX7_one_0 6 rfl rfl)
theorem dX7_one_7 : decode cX7_one 7 = .ok (.invokevirtual 18, 3) := dk_182 0 18 (dk_at dksX7_one_0 7 rfl rfl)
theorem dX7_one_10 : decode cX7_one 10 = .ok (.istore_n 3, 1) := dk_62 (dk_at dksX7_one_0 10 rfl rfl)
theorem dX7_one_11 : decode cX7_one 11 = .ok (.aload_n 1, 1) := dk_43 (dk_at dksX7_one_0 11 rfl rfl)
theorem dX7_one_12 : decode cX7_one 12 = .ok (.iload_n 3, 1) := dk_29 (dk_at dksX7_one_0 12 rfl rfl)
theorem dX7_one_13 : decode cX7_one 13 = .ok (.iconst (-1), 1) := dk_2 (dk_at dksX7_one_0 13 rfl rfl)
theorem dX7_one_14 : decode cX7_one 14 = .ok (.if_icmp .eq 7, 3) := dk_159 0 7 (dk_at dksX7_one_0 14 rfl rfl)
theorem dX7_one_17 : decode cX7_one 17 = .ok (.iload_n 3, 1) := dk_29 (dk_at dksX7_one_0 17 rfl rfl)
theorem dX7_one_18 : decode cX7_one 18 = .ok (.goto 8, 3) := dk_167 0 8 (dk_at dksX7_one_0 18 rfl rfl)
theorem dX7_one_21 : decode cX7_one 21 = .ok (.aload_n 1, 1) := dk_43 (dk_at dksX7_one_0 21 rfl rfl)
theorem dX7_one_22 : decode cX7_one 22 = .ok (.iload_n 2, 1) := dk_28 (dk_at dksX7_one_0 22 rfl rfl)
theorem dX7_one_23 : decode cX7_one 23 = .ok (.invokevirtual 18, 3) := dk_182 0 18 (dk_at dksX7_one_1 0 rfl rfl)
theorem dX7_one_26 : decode cX7_one 26 = .ok (.invokevirtual 24, 3) := dk_182 0 24 (dk_at dksX7_one_1 3 rfl rfl)
theorem dX7_one_29 : decode cX7_one 29 = .ok (.ireturn, 1) := dk_172 (dk_at dksX7_one_1 6 rfl rfl)
abbrev cX7_init : ByteArray := prog_7_method_1_code
def yX7_init : MethodName := ⟨RX7, "<init>", "(II)V"⟩
def dkwX7_init_0 : List UInt8 := [42, 183, 0, 3, 42, 27, 181, 0, 9, 42, 28, 181, 0, 15, 177]
abbrev dktX7_init_0 : List UInt8 := dkwX7_init_0 ++ []
theorem dksX7_init_0 : cX7_init.data.toList.drop 0 = dktX7_init_0 := by decide +kernel
theorem dX7_init_0 : decode cX7_init 0 = .ok (.aload_n 0, 1) := dk_42 (dk_at dksX7_init_0 0 rfl rfl)
theorem dX7_init_1 : decode cX7_init 1 = .ok (.invokespecial 3, 3) := dk_183 0 3 (dk_at dksX7_init_0 1 rfl rfl)
theorem dX7_init_4 : decode cX7_init 4 = .ok (.aload_n 0, 1) := dk_42 (dk_at dksX7_init_0 4 rfl rfl)
theorem dX7_init_5 : decode cX7_init 5 = .ok (.iload_n 1, 1) := dk_27 (dk_at dksX7_init_0 5 rfl rfl)
theorem dX7_init_6 : decode cX7_init 6 = .ok (.putfield 9, 3) := dk_181 0 9 (dk_at dksX7_init_0 6 rfl rfl)
theorem dX7_init_9 : decode cX7_init 9 = .ok (.aload_n 0, 1) := dk_42 (dk_at dksX7_init_0 9 rfl rfl)
theorem dX7_init_10 : decode cX7_init 10 = .ok (.iload_n 2, 1) := dk_28 (dk_at dksX7_init_0 10 rfl rfl)
theorem dX7_init_11 : decode cX7_init 11 = .ok (.putfield 15, 3) := dk_181 0 15 (dk_at dksX7_init_0 11 rfl rfl)
theorem dX7_init_14 : decode cX7_init 14 = .ok (.return_, 1) := dk_177 (dk_at dksX7_init_0 14 rfl rfl)
abbrev cX7_kind : ByteArray := prog_7_method_2_code
def yX7_kind : MethodName := ⟨RX7, "kind", "()I"⟩
theorem dX7_kind_0 : decode cX7_kind 0 = .ok (.iconst 0, 1) := by decide +kernel
theorem dX7_kind_1 : decode cX7_kind 1 = .ok (.ireturn, 1) := by decide +kernel
theorem q102 : (Jvm.Cond.initialized "SeenInOrderOfAge$Looker") ∈ lw_all := lw_g (lw_at lw_m1 20 rfl) rfl
theorem q577 : (Jvm.Cond.instanceMethod ({ cls := "SeenInOrderOfAge$Looker", name := "takes", desc := "(LSeenInOrderOfAge$Panes;I)I" } : Jvm.MethodName)) ∈ lw_all := lw_g (lw_at lw_m3 15 rfl) rfl
theorem q578 : (Jvm.Cond.selects "SeenInOrderOfAge$Looker" ({ cls := "SeenInOrderOfAge$Looker", name := "takes", desc := "(LSeenInOrderOfAge$Panes;I)I" } : Jvm.MethodName) ({ cls := "SeenInOrderOfAge$Looker", name := "takes", desc := "(LSeenInOrderOfAge$Panes;I)I" } : Jvm.MethodName)) ∈ lw_all := lw_g (lw_at lw_m3 16 rfl) rfl
theorem q579 : (Jvm.Cond.sameMethod "SeenInOrderOfAge$Looker" "SeenInOrderOfAge$Looker" "takes" "(LSeenInOrderOfAge$Panes;I)I") ∈ lw_all := lw_g (lw_at lw_m3 17 rfl) rfl
theorem q629 : (Jvm.Cond.code ({ cls := "SeenInOrderOfAge$Looker", name := "takes", desc := "(LSeenInOrderOfAge$Panes;I)I" } : Jvm.MethodName) prog_7_method_4_code (3 : Nat) (Option.some Jvm.ClassFile.FieldType.int)) ∈ lw_all := lw_g (lw_at lw_m3 67 rfl) rfl
theorem q630 : (Jvm.Cond.methodLink "SeenInOrderOfAge$Looker" (27 : Nat) ({ cls := "SeenInOrderOfAge$Looker", name := "one", desc := "(LSeenInOrderOfAge$Panes;I)I" } : Jvm.MethodName)) ∈ lw_all := lw_g (lw_at lw_m3 68 rfl) rfl
theorem q631 : (Jvm.Cond.instanceMethod ({ cls := "SeenInOrderOfAge$Looker", name := "one", desc := "(LSeenInOrderOfAge$Panes;I)I" } : Jvm.MethodName)) ∈ lw_all := lw_g (lw_at lw_m3 69 rfl) rfl
theorem q632 : (Jvm.Cond.selects "SeenInOrderOfAge$Looker" ({ cls := "SeenInOrderOfAge$Looker", name := "one", desc := "(LSeenInOrderOfAge$Panes;I)I" } : Jvm.MethodName) ({ cls := "SeenInOrderOfAge$Looker", name := "one", desc := "(LSeenInOrderOfAge$Panes;I)I" } : Jvm.MethodName)) ∈ lw_all := lw_g (lw_at lw_m3 70 rfl) rfl
theorem q633 : (Jvm.Cond.sameMethod "SeenInOrderOfAge$Looker" "SeenInOrderOfAge$Looker" "one" "(LSeenInOrderOfAge$Panes;I)I") ∈ lw_all := lw_g (lw_at lw_m3 71 rfl) rfl
theorem q639 : (Jvm.Cond.code ({ cls := "SeenInOrderOfAge$Looker", name := "one", desc := "(LSeenInOrderOfAge$Panes;I)I" } : Jvm.MethodName) prog_7_method_3_code (4 : Nat) (Option.some Jvm.ClassFile.FieldType.int)) ∈ lw_all := lw_g (lw_at lw_m3 77 rfl) rfl
theorem q640 : (Jvm.Cond.methodLink "SeenInOrderOfAge$Looker" (18 : Nat) ({ cls := "SeenInOrderOfAge$Panes", name := "firstOf", desc := "(I)I" } : Jvm.MethodName)) ∈ lw_all := lw_g (lw_at lw_m3 78 rfl) rfl
theorem q641 : (Jvm.Cond.methodLink "SeenInOrderOfAge$Looker" (24 : Nat) ({ cls := "SeenInOrderOfAge$Panes", name := "takes", desc := "(I)I" } : Jvm.MethodName)) ∈ lw_all := lw_g (lw_at lw_m3 79 rfl) rfl
theorem q668 : (Jvm.Cond.instantiable "SeenInOrderOfAge$Looker" (2 : Nat)) ∈ lw_all := lw_g (lw_at lw_m3 106 rfl) rfl
theorem q670 : (Jvm.Cond.instanceMethod ({ cls := "SeenInOrderOfAge$Looker", name := "<init>", desc := "(II)V" } : Jvm.MethodName)) ∈ lw_all := lw_g (lw_at lw_m3 108 rfl) rfl
theorem q671 : (Jvm.Cond.code ({ cls := "SeenInOrderOfAge$Looker", name := "<init>", desc := "(II)V" } : Jvm.MethodName) prog_7_method_1_code (3 : Nat) (Option.none : Option Jvm.ClassFile.FieldType)) ∈ lw_all := lw_g (lw_at lw_m3 109 rfl) rfl
theorem q672 : (Jvm.Cond.methodLink "SeenInOrderOfAge$Looker" (3 : Nat) ({ cls := "java/lang/Object", name := "<init>", desc := "()V" } : Jvm.MethodName)) ∈ lw_all := lw_g (lw_at lw_m3 110 rfl) rfl
theorem q673 : (Jvm.Cond.fieldLink "SeenInOrderOfAge$Looker" (9 : Nat) "SeenInOrderOfAge$Looker" "number" "I") ∈ lw_all := lw_g (lw_at lw_m3 111 rfl) rfl
theorem q675 : (Jvm.Cond.fieldLink "SeenInOrderOfAge$Looker" (15 : Nat) "SeenInOrderOfAge$Looker" "a" "I") ∈ lw_all := lw_g (lw_at lw_m3 113 rfl) rfl
theorem q681 : (Jvm.Cond.laysFinal "SeenInOrderOfAge$Looker" "SeenInOrderOfAge$Looker" "number" "I") ∈ lw_all := lw_g (lw_at lw_m3 119 rfl) rfl
theorem q682 : (Jvm.Cond.soleField "SeenInOrderOfAge$Looker" "number") ∈ lw_all := lw_g (lw_at lw_m3 120 rfl) rfl
theorem q683 : (Jvm.Cond.laysFinal "SeenInOrderOfAge$Looker" "SeenInOrderOfAge$Looker" "a" "I") ∈ lw_all := lw_g (lw_at lw_m3 121 rfl) rfl
theorem q684 : (Jvm.Cond.soleField "SeenInOrderOfAge$Looker" "a") ∈ lw_all := lw_g (lw_at lw_m3 122 rfl) rfl
theorem q685 : (Jvm.Cond.superclass "SeenInOrderOfAge$Looker" "java/lang/Object") ∈ lw_all := lw_g (lw_at lw_m3 123 rfl) rfl
theorem q1196 : (Jvm.Cond.instanceMethod ({ cls := "SeenInOrderOfAge$Looker", name := "kind", desc := "()I" } : Jvm.MethodName)) ∈ lw_all := lw_g (lw_at lw_m5 154 rfl) rfl
theorem q1197 : (Jvm.Cond.selects "SeenInOrderOfAge$Looker" ({ cls := "SeenInOrderOfAge$Looker", name := "kind", desc := "()I" } : Jvm.MethodName) ({ cls := "SeenInOrderOfAge$Looker", name := "kind", desc := "()I" } : Jvm.MethodName)) ∈ lw_all := lw_g (lw_at lw_m5 155 rfl) rfl
theorem q1198 : (Jvm.Cond.sameMethod "SeenInOrderOfAge$Looker" "SeenInOrderOfAge$Looker" "kind" "()I") ∈ lw_all := lw_g (lw_at lw_m5 156 rfl) rfl
theorem q1214 : (Jvm.Cond.code ({ cls := "SeenInOrderOfAge$Looker", name := "kind", desc := "()I" } : Jvm.MethodName) prog_7_method_2_code (1 : Nat) (Option.some Jvm.ClassFile.FieldType.int)) ∈ lw_all := lw_g (lw_at lw_m5 172 rfl) rfl

/-! X8 -/
abbrev cX8_takes : ByteArray := prog_2_method_3_code
def yX8_takes : MethodName := ⟨RX8, "takes", "(LSeenInOrderOfAge$Panes;I)I"⟩
def dkwX8_takes_0 : List UInt8 := [42, 43, 28, 183, 0, 7, 62, 29, 42, 43, 28, 183, 0, 7, 128, 172]
abbrev dktX8_takes_0 : List UInt8 := dkwX8_takes_0 ++ []
theorem dksX8_takes_0 : cX8_takes.data.toList.drop 0 = dktX8_takes_0 := by decide +kernel
theorem dX8_takes_0 : decode cX8_takes 0 = .ok (.aload_n 0, 1) := dk_42 (dk_at dksX8_takes_0 0 rfl rfl)
theorem dX8_takes_1 : decode cX8_takes 1 = .ok (.aload_n 1, 1) := dk_43 (dk_at dksX8_takes_0 1 rfl rfl)
theorem dX8_takes_2 : decode cX8_takes 2 = .ok (.iload_n 2, 1) := dk_28 (dk_at dksX8_takes_0 2 rfl rfl)
theorem dX8_takes_3 : decode cX8_takes 3 = .ok (.invokespecial 7, 3) := dk_183 0 7 (dk_at dksX8_takes_0 3 rfl rfl)
theorem dX8_takes_6 : decode cX8_takes 6 = .ok (.istore_n 3, 1) := dk_62 (dk_at dksX8_takes_0 6 rfl rfl)
theorem dX8_takes_7 : decode cX8_takes 7 = .ok (.iload_n 3, 1) := dk_29 (dk_at dksX8_takes_0 7 rfl rfl)
theorem dX8_takes_8 : decode cX8_takes 8 = .ok (.aload_n 0, 1) := dk_42 (dk_at dksX8_takes_0 8 rfl rfl)
theorem dX8_takes_9 : decode cX8_takes 9 = .ok (.aload_n 1, 1) := dk_43 (dk_at dksX8_takes_0 9 rfl rfl)
theorem dX8_takes_10 : decode cX8_takes 10 = .ok (.iload_n 2, 1) := dk_28 (dk_at dksX8_takes_0 10 rfl rfl)
theorem dX8_takes_11 : decode cX8_takes 11 = .ok (.invokespecial 7, 3) := dk_183 0 7 (dk_at dksX8_takes_0 11 rfl rfl)
theorem dX8_takes_14 : decode cX8_takes 14 = .ok (.ior, 1) := dk_128 (dk_at dksX8_takes_0 14 rfl rfl)
theorem dX8_takes_15 : decode cX8_takes 15 = .ok (.ireturn, 1) := dk_172 (dk_at dksX8_takes_0 15 rfl rfl)
abbrev cX8_init : ByteArray := prog_2_method_1_code
def yX8_init : MethodName := ⟨RX8, "<init>", "(II)V"⟩
def dkwX8_init_0 : List UInt8 := [42, 27, 28, 183, 0, 1, 177]
abbrev dktX8_init_0 : List UInt8 := dkwX8_init_0 ++ []
theorem dksX8_init_0 : cX8_init.data.toList.drop 0 = dktX8_init_0 := by decide +kernel
theorem dX8_init_0 : decode cX8_init 0 = .ok (.aload_n 0, 1) := dk_42 (dk_at dksX8_init_0 0 rfl rfl)
theorem dX8_init_1 : decode cX8_init 1 = .ok (.iload_n 1, 1) := dk_27 (dk_at dksX8_init_0 1 rfl rfl)
theorem dX8_init_2 : decode cX8_init 2 = .ok (.iload_n 2, 1) := dk_28 (dk_at dksX8_init_0 2 rfl rfl)
theorem dX8_init_3 : decode cX8_init 3 = .ok (.invokespecial 1, 3) := dk_183 0 1 (dk_at dksX8_init_0 3 rfl rfl)
theorem dX8_init_6 : decode cX8_init 6 = .ok (.return_, 1) := dk_177 (dk_at dksX8_init_0 6 rfl rfl)
abbrev cX8_kind : ByteArray := prog_2_method_2_code
def yX8_kind : MethodName := ⟨RX8, "kind", "()I"⟩
theorem dX8_kind_0 : decode cX8_kind 0 = .ok (.iconst 1, 1) := by decide +kernel
theorem dX8_kind_1 : decode cX8_kind 1 = .ok (.ireturn, 1) := by decide +kernel
theorem q103 : (Jvm.Cond.initialized "SeenInOrderOfAge$Child") ∈ lw_all := lw_g (lw_at lw_m1 21 rfl) rfl
theorem q580 : (Jvm.Cond.selects "SeenInOrderOfAge$Child" ({ cls := "SeenInOrderOfAge$Looker", name := "takes", desc := "(LSeenInOrderOfAge$Panes;I)I" } : Jvm.MethodName) ({ cls := "SeenInOrderOfAge$Child", name := "takes", desc := "(LSeenInOrderOfAge$Panes;I)I" } : Jvm.MethodName)) ∈ lw_all := lw_g (lw_at lw_m3 18 rfl) rfl
theorem q581 : (Jvm.Cond.instanceMethod ({ cls := "SeenInOrderOfAge$Child", name := "takes", desc := "(LSeenInOrderOfAge$Panes;I)I" } : Jvm.MethodName)) ∈ lw_all := lw_g (lw_at lw_m3 19 rfl) rfl
theorem q582 : (Jvm.Cond.code ({ cls := "SeenInOrderOfAge$Child", name := "takes", desc := "(LSeenInOrderOfAge$Panes;I)I" } : Jvm.MethodName) prog_2_method_3_code (4 : Nat) (Option.some Jvm.ClassFile.FieldType.int)) ∈ lw_all := lw_g (lw_at lw_m3 20 rfl) rfl
theorem q583 : (Jvm.Cond.methodLink "SeenInOrderOfAge$Child" (7 : Nat) ({ cls := "SeenInOrderOfAge$Looker", name := "takes", desc := "(LSeenInOrderOfAge$Panes;I)I" } : Jvm.MethodName)) ∈ lw_all := lw_g (lw_at lw_m3 21 rfl) rfl
theorem q584 : (Jvm.Cond.superclass "SeenInOrderOfAge$Child" "SeenInOrderOfAge$Looker") ∈ lw_all := lw_g (lw_at lw_m3 22 rfl) rfl
theorem q634 : (Jvm.Cond.selects "SeenInOrderOfAge$Child" ({ cls := "SeenInOrderOfAge$Looker", name := "one", desc := "(LSeenInOrderOfAge$Panes;I)I" } : Jvm.MethodName) ({ cls := "SeenInOrderOfAge$Looker", name := "one", desc := "(LSeenInOrderOfAge$Panes;I)I" } : Jvm.MethodName)) ∈ lw_all := lw_g (lw_at lw_m3 72 rfl) rfl
theorem q686 : (Jvm.Cond.instantiable "SeenInOrderOfAge$Child" (2 : Nat)) ∈ lw_all := lw_g (lw_at lw_m3 124 rfl) rfl
theorem q688 : (Jvm.Cond.instanceMethod ({ cls := "SeenInOrderOfAge$Child", name := "<init>", desc := "(II)V" } : Jvm.MethodName)) ∈ lw_all := lw_g (lw_at lw_m3 126 rfl) rfl
theorem q689 : (Jvm.Cond.code ({ cls := "SeenInOrderOfAge$Child", name := "<init>", desc := "(II)V" } : Jvm.MethodName) prog_2_method_1_code (3 : Nat) (Option.none : Option Jvm.ClassFile.FieldType)) ∈ lw_all := lw_g (lw_at lw_m3 127 rfl) rfl
theorem q690 : (Jvm.Cond.methodLink "SeenInOrderOfAge$Child" (1 : Nat) ({ cls := "SeenInOrderOfAge$Looker", name := "<init>", desc := "(II)V" } : Jvm.MethodName)) ∈ lw_all := lw_g (lw_at lw_m3 128 rfl) rfl
theorem q691 : (Jvm.Cond.laysFinal "SeenInOrderOfAge$Child" "SeenInOrderOfAge$Looker" "number" "I") ∈ lw_all := lw_g (lw_at lw_m3 129 rfl) rfl
theorem q692 : (Jvm.Cond.laysFinal "SeenInOrderOfAge$Child" "SeenInOrderOfAge$Looker" "a" "I") ∈ lw_all := lw_g (lw_at lw_m3 130 rfl) rfl
theorem q1199 : (Jvm.Cond.selects "SeenInOrderOfAge$Child" ({ cls := "SeenInOrderOfAge$Looker", name := "kind", desc := "()I" } : Jvm.MethodName) ({ cls := "SeenInOrderOfAge$Child", name := "kind", desc := "()I" } : Jvm.MethodName)) ∈ lw_all := lw_g (lw_at lw_m5 157 rfl) rfl
theorem q1200 : (Jvm.Cond.instanceMethod ({ cls := "SeenInOrderOfAge$Child", name := "kind", desc := "()I" } : Jvm.MethodName)) ∈ lw_all := lw_g (lw_at lw_m5 158 rfl) rfl
theorem q1201 : (Jvm.Cond.code ({ cls := "SeenInOrderOfAge$Child", name := "kind", desc := "()I" } : Jvm.MethodName) prog_2_method_2_code (1 : Nat) (Option.some Jvm.ClassFile.FieldType.int)) ∈ lw_all := lw_g (lw_at lw_m5 159 rfl) rfl
theorem q2048 : (Jvm.Cond.sameMethod "SeenInOrderOfAge$Child" "SeenInOrderOfAge$Child" "takes" "(LSeenInOrderOfAge$Panes;I)I") ∈ lw_all := lw_g (lw_at lw_m9 46 rfl) rfl
theorem q2059 : (Jvm.Cond.castable "SeenInOrderOfAge$Child" "SeenInOrderOfAge$Looker") ∈ lw_tbl := lw_at lw_m9 57 rfl

/-! X9 -/
abbrev cX9_takes : ByteArray := prog_9_method_4_code
def yX9_takes : MethodName := ⟨RX9, "takes", "(LSeenInOrderOfAge$Panes;I)I"⟩
def dkwX9_takes_1 : List UInt8 := [172]
abbrev dktX9_takes_1 : List UInt8 := dkwX9_takes_1 ++ []
def dkwX9_takes_0 : List UInt8 := [43, 28, 182, 0, 9, 62, 42, 43, 29, 182, 0, 15, 153, 0, 11, 43, 29, 182, 0, 21, 167, 0, 4, 3]
abbrev dktX9_takes_0 : List UInt8 := dkwX9_takes_0 ++ dktX9_takes_1
theorem dksX9_takes_0 : cX9_takes.data.toList.drop 0 = dktX9_takes_0 := by decide +kernel
theorem dksX9_takes_1 : cX9_takes.data.toList.drop 24 = dktX9_takes_1 := dk_seg dksX9_takes_0 24 rfl rfl
theorem dX9_takes_0 : decode cX9_takes 0 = .ok (.aload_n 1, 1) := dk_43 (dk_at dksX9_takes_0 0 rfl rfl)
theorem dX9_takes_1 : decode cX9_takes 1 = .ok (.iload_n 2, 1) := dk_28 (dk_at dksX9_takes_0 1 rfl rfl)
theorem dX9_takes_2 : decode cX9_takes 2 = .ok (.invokevirtual 9, 3) := dk_182 0 9 (dk_at dksX9_takes_0 2 rfl rfl)
theorem dX9_takes_5 : decode cX9_takes 5 = .ok (.istore_n 3, 1) := dk_62 (dk_at dksX9_takes_0 5 rfl rfl)
theorem dX9_takes_6 : decode cX9_takes 6 = .ok (.aload_n 0, 1) := dk_42 (dk_at dksX9_takes_0 6 rfl rfl)
theorem dX9_takes_7 : decode cX9_takes 7 = .ok (.aload_n 1, 1) := dk_43 (dk_at dksX9_takes_0 7 rfl rfl)
theorem dX9_takes_8 : decode cX9_takes 8 = .ok (.iload_n 3, 1) := dk_29 (dk_at dksX9_takes_0 8 rfl rfl)
theorem dX9_takes_9 : decode cX9_takes 9 = .ok (.invokevirtual 15, 3) := dk_182 0 15 (dk_at dksX9_takes_0 9 rfl rfl)
theorem dX9_takes_12 : decode cX9_takes 12 = .ok (.ifCond .eq 11, 3) := dk_153 0 11 (dk_at dksX9_takes_0 12 rfl rfl)
theorem dX9_takes_15 : decode cX9_takes 15 = .ok (.aload_n 1, 1) := dk_43 (dk_at dksX9_takes_0 15 rfl rfl)
theorem dX9_takes_16 : decode cX9_takes 16 = .ok (.iload_n 3, 1) := dk_29 (dk_at dksX9_takes_0 16 rfl rfl)
theorem dX9_takes_17 : decode cX9_takes 17 = .ok (.invokevirtual 21, 3) := dk_182 0 21 (dk_at dksX9_takes_0 17 rfl rfl)
theorem dX9_takes_20 : decode cX9_takes 20 = .ok (.goto 4, 3) := dk_167 0 4 (dk_at dksX9_takes_0 20 rfl rfl)
theorem dX9_takes_23 : decode cX9_takes 23 = .ok (.iconst 0, 1) := dk_3 (dk_at dksX9_takes_0 23 rfl rfl)
theorem dX9_takes_24 : decode cX9_takes 24 = .ok (.ireturn, 1) := dk_172 (dk_at dksX9_takes_1 0 rfl rfl)
abbrev cX9_wants : ByteArray := prog_9_method_3_code
def yX9_wants : MethodName := ⟨RX9, "wants", "(LSeenInOrderOfAge$Panes;I)Z"⟩
def dkwX9_wants_0 : List UInt8 := [28, 2, 159, 0, 7, 4, 167, 0, 4, 3, 172]
abbrev dktX9_wants_0 : List UInt8 := dkwX9_wants_0 ++ []
theorem dksX9_wants_0 : cX9_wants.data.toList.drop 0 = dktX9_wants_0 := by decide +kernel
theorem dX9_wants_0 : decode cX9_wants 0 = .ok (.iload_n 2, 1) := dk_28 (dk_at dksX9_wants_0 0 rfl rfl)
theorem dX9_wants_1 : decode cX9_wants 1 = .ok (.iconst (-1), 1) := dk_2 (dk_at dksX9_wants_0 1 rfl rfl)
theorem dX9_wants_2 : decode cX9_wants 2 = .ok (.if_icmp .eq 7, 3) := dk_159 0 7 (dk_at dksX9_wants_0 2 rfl rfl)
theorem dX9_wants_5 : decode cX9_wants 5 = .ok (.iconst 1, 1) := dk_4 (dk_at dksX9_wants_0 5 rfl rfl)
theorem dX9_wants_6 : decode cX9_wants 6 = .ok (.goto 4, 3) := dk_167 0 4 (dk_at dksX9_wants_0 6 rfl rfl)
theorem dX9_wants_9 : decode cX9_wants 9 = .ok (.iconst 0, 1) := dk_3 (dk_at dksX9_wants_0 9 rfl rfl)
theorem dX9_wants_10 : decode cX9_wants 10 = .ok (.ireturn, 1) := dk_172 (dk_at dksX9_wants_0 10 rfl rfl)
abbrev cX9_init : ByteArray := prog_9_method_1_code
def yX9_init : MethodName := ⟨RX9, "<init>", "(II)V"⟩
def dkwX9_init_0 : List UInt8 := [42, 27, 28, 183, 0, 3, 177]
abbrev dktX9_init_0 : List UInt8 := dkwX9_init_0 ++ []
theorem dksX9_init_0 : cX9_init.data.toList.drop 0 = dktX9_init_0 := by decide +kernel
theorem dX9_init_0 : decode cX9_init 0 = .ok (.aload_n 0, 1) := dk_42 (dk_at dksX9_init_0 0 rfl rfl)
theorem dX9_init_1 : decode cX9_init 1 = .ok (.iload_n 1, 1) := dk_27 (dk_at dksX9_init_0 1 rfl rfl)
theorem dX9_init_2 : decode cX9_init 2 = .ok (.iload_n 2, 1) := dk_28 (dk_at dksX9_init_0 2 rfl rfl)
theorem dX9_init_3 : decode cX9_init 3 = .ok (.invokespecial 3, 3) := dk_183 0 3 (dk_at dksX9_init_0 3 rfl rfl)
theorem dX9_init_6 : decode cX9_init 6 = .ok (.return_, 1) := dk_177 (dk_at dksX9_init_0 6 rfl rfl)
abbrev cX9_kind : ByteArray := prog_9_method_2_code
def yX9_kind : MethodName := ⟨RX9, "kind", "()I"⟩
theorem dX9_kind_0 : decode cX9_kind 0 = .ok (.iconst 2, 1) := by decide +kernel
theorem dX9_kind_1 : decode cX9_kind 1 = .ok (.ireturn, 1) := by decide +kernel
theorem q104 : (Jvm.Cond.initialized "SeenInOrderOfAge$Old") ∈ lw_all := lw_g (lw_at lw_m1 22 rfl) rfl
theorem q586 : (Jvm.Cond.instanceMethod ({ cls := "SeenInOrderOfAge$Old", name := "takes", desc := "(LSeenInOrderOfAge$Panes;I)I" } : Jvm.MethodName)) ∈ lw_all := lw_g (lw_at lw_m3 24 rfl) rfl
theorem q587 : (Jvm.Cond.code ({ cls := "SeenInOrderOfAge$Old", name := "takes", desc := "(LSeenInOrderOfAge$Panes;I)I" } : Jvm.MethodName) prog_9_method_4_code (4 : Nat) (Option.some Jvm.ClassFile.FieldType.int)) ∈ lw_all := lw_g (lw_at lw_m3 25 rfl) rfl
theorem q588 : (Jvm.Cond.methodLink "SeenInOrderOfAge$Old" (9 : Nat) ({ cls := "SeenInOrderOfAge$Panes", name := "lastOf", desc := "(I)I" } : Jvm.MethodName)) ∈ lw_all := lw_g (lw_at lw_m3 26 rfl) rfl
theorem q593 : (Jvm.Cond.methodLink "SeenInOrderOfAge$Old" (15 : Nat) ({ cls := "SeenInOrderOfAge$Old", name := "wants", desc := "(LSeenInOrderOfAge$Panes;I)Z" } : Jvm.MethodName)) ∈ lw_all := lw_g (lw_at lw_m3 31 rfl) rfl
theorem q594 : (Jvm.Cond.instanceMethod ({ cls := "SeenInOrderOfAge$Old", name := "wants", desc := "(LSeenInOrderOfAge$Panes;I)Z" } : Jvm.MethodName)) ∈ lw_all := lw_g (lw_at lw_m3 32 rfl) rfl
theorem q595 : (Jvm.Cond.selects "SeenInOrderOfAge$Old" ({ cls := "SeenInOrderOfAge$Old", name := "wants", desc := "(LSeenInOrderOfAge$Panes;I)Z" } : Jvm.MethodName) ({ cls := "SeenInOrderOfAge$Old", name := "wants", desc := "(LSeenInOrderOfAge$Panes;I)Z" } : Jvm.MethodName)) ∈ lw_all := lw_g (lw_at lw_m3 33 rfl) rfl
theorem q596 : (Jvm.Cond.sameMethod "SeenInOrderOfAge$Old" "SeenInOrderOfAge$Old" "wants" "(LSeenInOrderOfAge$Panes;I)Z") ∈ lw_all := lw_g (lw_at lw_m3 34 rfl) rfl
theorem q606 : (Jvm.Cond.code ({ cls := "SeenInOrderOfAge$Old", name := "wants", desc := "(LSeenInOrderOfAge$Panes;I)Z" } : Jvm.MethodName) prog_9_method_3_code (3 : Nat) (Option.some Jvm.ClassFile.FieldType.boolean)) ∈ lw_all := lw_g (lw_at lw_m3 44 rfl) rfl
theorem q607 : (Jvm.Cond.methodLink "SeenInOrderOfAge$Old" (21 : Nat) ({ cls := "SeenInOrderOfAge$Panes", name := "takes", desc := "(I)I" } : Jvm.MethodName)) ∈ lw_all := lw_g (lw_at lw_m3 45 rfl) rfl
theorem q621 : (Jvm.Cond.selects "SeenInOrderOfAge$Old" ({ cls := "SeenInOrderOfAge$Looker", name := "takes", desc := "(LSeenInOrderOfAge$Panes;I)I" } : Jvm.MethodName) ({ cls := "SeenInOrderOfAge$Old", name := "takes", desc := "(LSeenInOrderOfAge$Panes;I)I" } : Jvm.MethodName)) ∈ lw_all := lw_g (lw_at lw_m3 59 rfl) rfl
theorem q637 : (Jvm.Cond.selects "SeenInOrderOfAge$Old" ({ cls := "SeenInOrderOfAge$Looker", name := "one", desc := "(LSeenInOrderOfAge$Panes;I)I" } : Jvm.MethodName) ({ cls := "SeenInOrderOfAge$Looker", name := "one", desc := "(LSeenInOrderOfAge$Panes;I)I" } : Jvm.MethodName)) ∈ lw_all := lw_g (lw_at lw_m3 75 rfl) rfl
theorem q693 : (Jvm.Cond.instantiable "SeenInOrderOfAge$Old" (2 : Nat)) ∈ lw_all := lw_g (lw_at lw_m3 131 rfl) rfl
theorem q695 : (Jvm.Cond.instanceMethod ({ cls := "SeenInOrderOfAge$Old", name := "<init>", desc := "(II)V" } : Jvm.MethodName)) ∈ lw_all := lw_g (lw_at lw_m3 133 rfl) rfl
theorem q696 : (Jvm.Cond.code ({ cls := "SeenInOrderOfAge$Old", name := "<init>", desc := "(II)V" } : Jvm.MethodName) prog_9_method_1_code (3 : Nat) (Option.none : Option Jvm.ClassFile.FieldType)) ∈ lw_all := lw_g (lw_at lw_m3 134 rfl) rfl
theorem q697 : (Jvm.Cond.methodLink "SeenInOrderOfAge$Old" (3 : Nat) ({ cls := "SeenInOrderOfAge$Looker", name := "<init>", desc := "(II)V" } : Jvm.MethodName)) ∈ lw_all := lw_g (lw_at lw_m3 135 rfl) rfl
theorem q698 : (Jvm.Cond.laysFinal "SeenInOrderOfAge$Old" "SeenInOrderOfAge$Looker" "number" "I") ∈ lw_all := lw_g (lw_at lw_m3 136 rfl) rfl
theorem q699 : (Jvm.Cond.laysFinal "SeenInOrderOfAge$Old" "SeenInOrderOfAge$Looker" "a" "I") ∈ lw_all := lw_g (lw_at lw_m3 137 rfl) rfl
theorem q700 : (Jvm.Cond.superclass "SeenInOrderOfAge$Old" "SeenInOrderOfAge$Looker") ∈ lw_all := lw_g (lw_at lw_m3 138 rfl) rfl
theorem q1208 : (Jvm.Cond.selects "SeenInOrderOfAge$Old" ({ cls := "SeenInOrderOfAge$Looker", name := "kind", desc := "()I" } : Jvm.MethodName) ({ cls := "SeenInOrderOfAge$Old", name := "kind", desc := "()I" } : Jvm.MethodName)) ∈ lw_all := lw_g (lw_at lw_m5 166 rfl) rfl
theorem q1209 : (Jvm.Cond.instanceMethod ({ cls := "SeenInOrderOfAge$Old", name := "kind", desc := "()I" } : Jvm.MethodName)) ∈ lw_all := lw_g (lw_at lw_m5 167 rfl) rfl
theorem q1210 : (Jvm.Cond.code ({ cls := "SeenInOrderOfAge$Old", name := "kind", desc := "()I" } : Jvm.MethodName) prog_9_method_2_code (1 : Nat) (Option.some Jvm.ClassFile.FieldType.int)) ∈ lw_all := lw_g (lw_at lw_m5 168 rfl) rfl
theorem q2062 : (Jvm.Cond.castable "SeenInOrderOfAge$Old" "SeenInOrderOfAge$Looker") ∈ lw_tbl := lw_at lw_m9 60 rfl

/-! X10 -/
abbrev cX10_takes : ByteArray := prog_6_method_3_code
def yX10_takes : MethodName := ⟨RX10, "takes", "(LSeenInOrderOfAge$Panes;I)I"⟩
def dkwX10_takes_2 : List UInt8 := [128, 62, 43, 4, 42, 180, 0, 9, 120, 182, 0, 15, 54, 4, 167, 255, 229, 29, 172]
abbrev dktX10_takes_2 : List UInt8 := dkwX10_takes_2 ++ []
def dkwX10_takes_1 : List UInt8 := [4, 42, 180, 0, 9, 120, 182, 0, 15, 54, 4, 21, 4, 2, 159, 0, 27, 29, 43, 21, 4, 182, 0, 25]
abbrev dktX10_takes_1 : List UInt8 := dkwX10_takes_1 ++ dktX10_takes_2
def dkwX10_takes_0 : List UInt8 := [43, 4, 42, 180, 0, 9, 120, 182, 0, 15, 2, 160, 0, 10, 42, 43, 28, 183, 0, 21, 172, 3, 62, 43]
abbrev dktX10_takes_0 : List UInt8 := dkwX10_takes_0 ++ dktX10_takes_1
theorem dksX10_takes_0 : cX10_takes.data.toList.drop 0 = dktX10_takes_0 := by decide +kernel
theorem dksX10_takes_1 : cX10_takes.data.toList.drop 24 = dktX10_takes_1 := dk_seg dksX10_takes_0 24 rfl rfl
theorem dksX10_takes_2 : cX10_takes.data.toList.drop 48 = dktX10_takes_2 := dk_seg dksX10_takes_1 24 rfl rfl
theorem dX10_takes_0 : decode cX10_takes 0 = .ok (.aload_n 1, 1) := dk_43 (dk_at dksX10_takes_0 0 rfl rfl)
theorem dX10_takes_1 : decode cX10_takes 1 = .ok (.iconst 1, 1) := dk_4 (dk_at dksX10_takes_0 1 rfl rfl)
theorem dX10_takes_2 : decode cX10_takes 2 = .ok (.aload_n 0, 1) := dk_42 (dk_at dksX10_takes_0 2 rfl rfl)
theorem dX10_takes_3 : decode cX10_takes 3 = .ok (.getfield 9, 3) := dk_180 0 9 (dk_at dksX10_takes_0 3 rfl rfl)
theorem dX10_takes_6 : decode cX10_takes 6 = .ok (.ishl, 1) := dk_120 (dk_at dksX10_takes_0 6 rfl rfl)
theorem dX10_takes_7 : decode cX10_takes 7 = .ok (.invokevirtual 15, 3) := dk_182 0 15 (dk_at dksX10_takes_0 7 rfl rfl)
theorem dX10_takes_10 : decode cX10_takes 10 = .ok (.iconst (-1), 1) := dk_2 (dk_at dksX10_takes_0 10 rfl rfl)
theorem dX10_takes_11 : decode cX10_takes 11 = .ok (.if_icmp .ne 10, 3) := dk_160 0 10 (dk_at dksX10_takes_0 11 rfl rfl)
theorem dX10_takes_14 : decode cX10_takes 14 = .ok (.aload_n 0, 1) := dk_42 (dk_at dksX10_takes_0 14 rfl rfl)
theorem dX10_takes_15 : decode cX10_takes 15 = .ok (.aload_n 1, 1) := dk_43 (dk_at dksX10_takes_0 15 rfl rfl)
theorem dX10_takes_16 : decode cX10_takes 16 = .ok (.iload_n 2, 1) := dk_28 (dk_at dksX10_takes_0 16 rfl rfl)
theorem dX10_takes_17 : decode cX10_takes 17 = .ok (.invokespecial 21, 3) := dk_183 0 21 (dk_at dksX10_takes_0 17 rfl rfl)
theorem dX10_takes_20 : decode cX10_takes 20 = .ok (.ireturn, 1) := dk_172 (dk_at dksX10_takes_0 20 rfl rfl)
theorem dX10_takes_21 : decode cX10_takes 21 = .ok (.iconst 0, 1) := dk_3 (dk_at dksX10_takes_0 21 rfl rfl)
theorem dX10_takes_22 : decode cX10_takes 22 = .ok (.istore_n 3, 1) := dk_62 (dk_at dksX10_takes_0 22 rfl rfl)
theorem dX10_takes_23 : decode cX10_takes 23 = .ok (.aload_n 1, 1) := dk_43 (dk_at dksX10_takes_0 23 rfl rfl)
theorem dX10_takes_24 : decode cX10_takes 24 = .ok (.iconst 1, 1) := dk_4 (dk_at dksX10_takes_1 0 rfl rfl)
theorem dX10_takes_25 : decode cX10_takes 25 = .ok (.aload_n 0, 1) := dk_42 (dk_at dksX10_takes_1 1 rfl rfl)
theorem dX10_takes_26 : decode cX10_takes 26 = .ok (.getfield 9, 3) := dk_180 0 9 (dk_at dksX10_takes_1 2 rfl rfl)
theorem dX10_takes_29 : decode cX10_takes 29 = .ok (.ishl, 1) := dk_120 (dk_at dksX10_takes_1 5 rfl rfl)
theorem dX10_takes_30 : decode cX10_takes 30 = .ok (.invokevirtual 15, 3) := dk_182 0 15 (dk_at dksX10_takes_1 6 rfl rfl)
theorem dX10_takes_33 : decode cX10_takes 33 = .ok (.istore 4, 2) := dk_54 4 (dk_at dksX10_takes_1 9 rfl rfl)
theorem dX10_takes_35 : decode cX10_takes 35 = .ok (.iload 4, 2) := dk_21 4 (dk_at dksX10_takes_1 11 rfl rfl)
theorem dX10_takes_37 : decode cX10_takes 37 = .ok (.iconst (-1), 1) := dk_2 (dk_at dksX10_takes_1 13 rfl rfl)
theorem dX10_takes_38 : decode cX10_takes 38 = .ok (.if_icmp .eq 27, 3) := dk_159 0 27 (dk_at dksX10_takes_1 14 rfl rfl)
theorem dX10_takes_41 : decode cX10_takes 41 = .ok (.iload_n 3, 1) := dk_29 (dk_at dksX10_takes_1 17 rfl rfl)
theorem dX10_takes_42 : decode cX10_takes 42 = .ok (.aload_n 1, 1) := dk_43 (dk_at dksX10_takes_1 18 rfl rfl)
theorem dX10_takes_43 : decode cX10_takes 43 = .ok (.iload 4, 2) := dk_21 4 (dk_at dksX10_takes_1 19 rfl rfl)
theorem dX10_takes_45 : decode cX10_takes 45 = .ok (.invokevirtual 25, 3) := dk_182 0 25 (dk_at dksX10_takes_1 21 rfl rfl)
theorem dX10_takes_48 : decode cX10_takes 48 = .ok (.ior, 1) := dk_128 (dk_at dksX10_takes_2 0 rfl rfl)
theorem dX10_takes_49 : decode cX10_takes 49 = .ok (.istore_n 3, 1) := dk_62 (dk_at dksX10_takes_2 1 rfl rfl)
theorem dX10_takes_50 : decode cX10_takes 50 = .ok (.aload_n 1, 1) := dk_43 (dk_at dksX10_takes_2 2 rfl rfl)
theorem dX10_takes_51 : decode cX10_takes 51 = .ok (.iconst 1, 1) := dk_4 (dk_at dksX10_takes_2 3 rfl rfl)
theorem dX10_takes_52 : decode cX10_takes 52 = .ok (.aload_n 0, 1) := dk_42 (dk_at dksX10_takes_2 4 rfl rfl)
theorem dX10_takes_53 : decode cX10_takes 53 = .ok (.getfield 9, 3) := dk_180 0 9 (dk_at dksX10_takes_2 5 rfl rfl)
theorem dX10_takes_56 : decode cX10_takes 56 = .ok (.ishl, 1) := dk_120 (dk_at dksX10_takes_2 8 rfl rfl)
theorem dX10_takes_57 : decode cX10_takes 57 = .ok (.invokevirtual 15, 3) := dk_182 0 15 (dk_at dksX10_takes_2 9 rfl rfl)
theorem dX10_takes_60 : decode cX10_takes 60 = .ok (.istore 4, 2) := dk_54 4 (dk_at dksX10_takes_2 12 rfl rfl)
theorem dX10_takes_62 : decode cX10_takes 62 = .ok (.goto (-27), 3) := dk_167 255 229 (dk_at dksX10_takes_2 14 rfl rfl)
theorem dX10_takes_65 : decode cX10_takes 65 = .ok (.iload_n 3, 1) := dk_29 (dk_at dksX10_takes_2 17 rfl rfl)
theorem dX10_takes_66 : decode cX10_takes 66 = .ok (.ireturn, 1) := dk_172 (dk_at dksX10_takes_2 18 rfl rfl)
abbrev cX10_init : ByteArray := prog_6_method_1_code
def yX10_init : MethodName := ⟨RX10, "<init>", "(II)V"⟩
def dkwX10_init_0 : List UInt8 := [42, 27, 28, 183, 0, 3, 177]
abbrev dktX10_init_0 : List UInt8 := dkwX10_init_0 ++ []
theorem dksX10_init_0 : cX10_init.data.toList.drop 0 = dktX10_init_0 := by decide +kernel
theorem dX10_init_0 : decode cX10_init 0 = .ok (.aload_n 0, 1) := dk_42 (dk_at dksX10_init_0 0 rfl rfl)
theorem dX10_init_1 : decode cX10_init 1 = .ok (.iload_n 1, 1) := dk_27 (dk_at dksX10_init_0 1 rfl rfl)
theorem dX10_init_2 : decode cX10_init 2 = .ok (.iload_n 2, 1) := dk_28 (dk_at dksX10_init_0 2 rfl rfl)
theorem dX10_init_3 : decode cX10_init 3 = .ok (.invokespecial 3, 3) := dk_183 0 3 (dk_at dksX10_init_0 3 rfl rfl)
theorem dX10_init_6 : decode cX10_init 6 = .ok (.return_, 1) := dk_177 (dk_at dksX10_init_0 6 rfl rfl)
abbrev cX10_kind : ByteArray := prog_6_method_2_code
def yX10_kind : MethodName := ⟨RX10, "kind", "()I"⟩
theorem dX10_kind_0 : decode cX10_kind 0 = .ok (.iconst 3, 1) := by decide +kernel
theorem dX10_kind_1 : decode cX10_kind 1 = .ok (.ireturn, 1) := by decide +kernel
theorem q105 : (Jvm.Cond.initialized "SeenInOrderOfAge$Greedy") ∈ lw_all := lw_g (lw_at lw_m1 23 rfl) rfl
theorem q611 : (Jvm.Cond.selects "SeenInOrderOfAge$Greedy" ({ cls := "SeenInOrderOfAge$Looker", name := "takes", desc := "(LSeenInOrderOfAge$Panes;I)I" } : Jvm.MethodName) ({ cls := "SeenInOrderOfAge$Greedy", name := "takes", desc := "(LSeenInOrderOfAge$Panes;I)I" } : Jvm.MethodName)) ∈ lw_all := lw_g (lw_at lw_m3 49 rfl) rfl
theorem q612 : (Jvm.Cond.instanceMethod ({ cls := "SeenInOrderOfAge$Greedy", name := "takes", desc := "(LSeenInOrderOfAge$Panes;I)I" } : Jvm.MethodName)) ∈ lw_all := lw_g (lw_at lw_m3 50 rfl) rfl
theorem q613 : (Jvm.Cond.code ({ cls := "SeenInOrderOfAge$Greedy", name := "takes", desc := "(LSeenInOrderOfAge$Panes;I)I" } : Jvm.MethodName) prog_6_method_3_code (5 : Nat) (Option.some Jvm.ClassFile.FieldType.int)) ∈ lw_all := lw_g (lw_at lw_m3 51 rfl) rfl
theorem q614 : (Jvm.Cond.methodLink "SeenInOrderOfAge$Greedy" (15 : Nat) ({ cls := "SeenInOrderOfAge$Panes", name := "firstOf", desc := "(I)I" } : Jvm.MethodName)) ∈ lw_all := lw_g (lw_at lw_m3 52 rfl) rfl
theorem q618 : (Jvm.Cond.methodLink "SeenInOrderOfAge$Greedy" (21 : Nat) ({ cls := "SeenInOrderOfAge$Child", name := "takes", desc := "(LSeenInOrderOfAge$Panes;I)I" } : Jvm.MethodName)) ∈ lw_all := lw_g (lw_at lw_m3 56 rfl) rfl
theorem q619 : (Jvm.Cond.superclass "SeenInOrderOfAge$Greedy" "SeenInOrderOfAge$Child") ∈ lw_all := lw_g (lw_at lw_m3 57 rfl) rfl
theorem q620 : (Jvm.Cond.methodLink "SeenInOrderOfAge$Greedy" (25 : Nat) ({ cls := "SeenInOrderOfAge$Panes", name := "takes", desc := "(I)I" } : Jvm.MethodName)) ∈ lw_all := lw_g (lw_at lw_m3 58 rfl) rfl
theorem q636 : (Jvm.Cond.selects "SeenInOrderOfAge$Greedy" ({ cls := "SeenInOrderOfAge$Looker", name := "one", desc := "(LSeenInOrderOfAge$Panes;I)I" } : Jvm.MethodName) ({ cls := "SeenInOrderOfAge$Looker", name := "one", desc := "(LSeenInOrderOfAge$Panes;I)I" } : Jvm.MethodName)) ∈ lw_all := lw_g (lw_at lw_m3 74 rfl) rfl
theorem q676 : (Jvm.Cond.fieldLink "SeenInOrderOfAge$Greedy" (9 : Nat) "SeenInOrderOfAge$Greedy" "a" "I") ∈ lw_all := lw_g (lw_at lw_m3 114 rfl) rfl
theorem q677 : (Jvm.Cond.sameField "SeenInOrderOfAge$Greedy" "SeenInOrderOfAge$Looker" "a" "I") ∈ lw_all := lw_g (lw_at lw_m3 115 rfl) rfl
theorem q701 : (Jvm.Cond.instantiable "SeenInOrderOfAge$Greedy" (2 : Nat)) ∈ lw_all := lw_g (lw_at lw_m3 139 rfl) rfl
theorem q703 : (Jvm.Cond.instanceMethod ({ cls := "SeenInOrderOfAge$Greedy", name := "<init>", desc := "(II)V" } : Jvm.MethodName)) ∈ lw_all := lw_g (lw_at lw_m3 141 rfl) rfl
theorem q704 : (Jvm.Cond.code ({ cls := "SeenInOrderOfAge$Greedy", name := "<init>", desc := "(II)V" } : Jvm.MethodName) prog_6_method_1_code (3 : Nat) (Option.none : Option Jvm.ClassFile.FieldType)) ∈ lw_all := lw_g (lw_at lw_m3 142 rfl) rfl
theorem q705 : (Jvm.Cond.methodLink "SeenInOrderOfAge$Greedy" (3 : Nat) ({ cls := "SeenInOrderOfAge$Child", name := "<init>", desc := "(II)V" } : Jvm.MethodName)) ∈ lw_all := lw_g (lw_at lw_m3 143 rfl) rfl
theorem q706 : (Jvm.Cond.laysFinal "SeenInOrderOfAge$Greedy" "SeenInOrderOfAge$Looker" "number" "I") ∈ lw_all := lw_g (lw_at lw_m3 144 rfl) rfl
theorem q707 : (Jvm.Cond.laysFinal "SeenInOrderOfAge$Greedy" "SeenInOrderOfAge$Looker" "a" "I") ∈ lw_all := lw_g (lw_at lw_m3 145 rfl) rfl
theorem q1205 : (Jvm.Cond.selects "SeenInOrderOfAge$Greedy" ({ cls := "SeenInOrderOfAge$Looker", name := "kind", desc := "()I" } : Jvm.MethodName) ({ cls := "SeenInOrderOfAge$Greedy", name := "kind", desc := "()I" } : Jvm.MethodName)) ∈ lw_all := lw_g (lw_at lw_m5 163 rfl) rfl
theorem q1206 : (Jvm.Cond.instanceMethod ({ cls := "SeenInOrderOfAge$Greedy", name := "kind", desc := "()I" } : Jvm.MethodName)) ∈ lw_all := lw_g (lw_at lw_m5 164 rfl) rfl
theorem q1207 : (Jvm.Cond.code ({ cls := "SeenInOrderOfAge$Greedy", name := "kind", desc := "()I" } : Jvm.MethodName) prog_6_method_2_code (1 : Nat) (Option.some Jvm.ClassFile.FieldType.int)) ∈ lw_all := lw_g (lw_at lw_m5 165 rfl) rfl
theorem q2061 : (Jvm.Cond.castable "SeenInOrderOfAge$Greedy" "SeenInOrderOfAge$Looker") ∈ lw_tbl := lw_at lw_m9 59 rfl
theorem q2064 : (Jvm.Cond.castable "SeenInOrderOfAge$Greedy" "SeenInOrderOfAge$Child") ∈ lw_tbl := lw_at lw_m9 62 rfl

/-! X11 -/
abbrev cX11_wants : ByteArray := prog_5_method_3_code
def yX11_wants : MethodName := ⟨RX11, "wants", "(LSeenInOrderOfAge$Panes;I)Z"⟩
def dkwX11_wants_1 : List UInt8 := [167, 0, 4, 3, 172]
abbrev dktX11_wants_1 : List UInt8 := dkwX11_wants_1 ++ []
def dkwX11_wants_0 : List UInt8 := [42, 43, 28, 183, 0, 7, 153, 0, 21, 43, 43, 180, 0, 11, 28, 46, 182, 0, 17, 4, 164, 0, 7, 4]
abbrev dktX11_wants_0 : List UInt8 := dkwX11_wants_0 ++ dktX11_wants_1
theorem dksX11_wants_0 : cX11_wants.data.toList.drop 0 = dktX11_wants_0 := by decide +kernel
theorem dksX11_wants_1 : cX11_wants.data.toList.drop 24 = dktX11_wants_1 := dk_seg dksX11_wants_0 24 rfl rfl
theorem dX11_wants_0 : decode cX11_wants 0 = .ok (.aload_n 0, 1) := dk_42 (dk_at dksX11_wants_0 0 rfl rfl)
theorem dX11_wants_1 : decode cX11_wants 1 = .ok (.aload_n 1, 1) := dk_43 (dk_at dksX11_wants_0 1 rfl rfl)
theorem dX11_wants_2 : decode cX11_wants 2 = .ok (.iload_n 2, 1) := dk_28 (dk_at dksX11_wants_0 2 rfl rfl)
theorem dX11_wants_3 : decode cX11_wants 3 = .ok (.invokespecial 7, 3) := dk_183 0 7 (dk_at dksX11_wants_0 3 rfl rfl)
theorem dX11_wants_6 : decode cX11_wants 6 = .ok (.ifCond .eq 21, 3) := dk_153 0 21 (dk_at dksX11_wants_0 6 rfl rfl)
theorem dX11_wants_9 : decode cX11_wants 9 = .ok (.aload_n 1, 1) := dk_43 (dk_at dksX11_wants_0 9 rfl rfl)
theorem dX11_wants_10 : decode cX11_wants 10 = .ok (.aload_n 1, 1) := dk_43 (dk_at dksX11_wants_0 10 rfl rfl)
theorem dX11_wants_11 : decode cX11_wants 11 = .ok (.getfield 11, 3) := dk_180 0 11 (dk_at dksX11_wants_0 11 rfl rfl)
theorem dX11_wants_14 : decode cX11_wants 14 = .ok (.iload_n 2, 1) := dk_28 (dk_at dksX11_wants_0 14 rfl rfl)
theorem dX11_wants_15 : decode cX11_wants 15 = .ok (.iaload, 1) := dk_46 (dk_at dksX11_wants_0 15 rfl rfl)
theorem dX11_wants_16 : decode cX11_wants 16 = .ok (.invokevirtual 17, 3) := dk_182 0 17 (dk_at dksX11_wants_0 16 rfl rfl)
theorem dX11_wants_19 : decode cX11_wants 19 = .ok (.iconst 1, 1) := dk_4 (dk_at dksX11_wants_0 19 rfl rfl)
theorem dX11_wants_20 : decode cX11_wants 20 = .ok (.if_icmp .le 7, 3) := dk_164 0 7 (dk_at dksX11_wants_0 20 rfl rfl)
theorem dX11_wants_23 : decode cX11_wants 23 = .ok (.iconst 1, 1) := dk_4 (dk_at dksX11_wants_0 23 rfl rfl)
theorem dX11_wants_24 : decode cX11_wants 24 = .ok (.goto 4, 3) := dk_167 0 4 (dk_at dksX11_wants_1 0 rfl rfl)
theorem dX11_wants_27 : decode cX11_wants 27 = .ok (.iconst 0, 1) := dk_3 (dk_at dksX11_wants_1 3 rfl rfl)
theorem dX11_wants_28 : decode cX11_wants 28 = .ok (.ireturn, 1) := dk_172 (dk_at dksX11_wants_1 4 rfl rfl)
abbrev cX11_init : ByteArray := prog_5_method_1_code
def yX11_init : MethodName := ⟨RX11, "<init>", "(II)V"⟩
def dkwX11_init_0 : List UInt8 := [42, 27, 28, 183, 0, 1, 177]
abbrev dktX11_init_0 : List UInt8 := dkwX11_init_0 ++ []
theorem dksX11_init_0 : cX11_init.data.toList.drop 0 = dktX11_init_0 := by decide +kernel
theorem dX11_init_0 : decode cX11_init 0 = .ok (.aload_n 0, 1) := dk_42 (dk_at dksX11_init_0 0 rfl rfl)
theorem dX11_init_1 : decode cX11_init 1 = .ok (.iload_n 1, 1) := dk_27 (dk_at dksX11_init_0 1 rfl rfl)
theorem dX11_init_2 : decode cX11_init 2 = .ok (.iload_n 2, 1) := dk_28 (dk_at dksX11_init_0 2 rfl rfl)
theorem dX11_init_3 : decode cX11_init 3 = .ok (.invokespecial 1, 3) := dk_183 0 1 (dk_at dksX11_init_0 3 rfl rfl)
theorem dX11_init_6 : decode cX11_init 6 = .ok (.return_, 1) := dk_177 (dk_at dksX11_init_0 6 rfl rfl)
abbrev cX11_kind : ByteArray := prog_5_method_2_code
def yX11_kind : MethodName := ⟨RX11, "kind", "()I"⟩
theorem dX11_kind_0 : decode cX11_kind 0 = .ok (.iconst 4, 1) := by decide +kernel
theorem dX11_kind_1 : decode cX11_kind 1 = .ok (.ireturn, 1) := by decide +kernel
theorem q106 : (Jvm.Cond.initialized "SeenInOrderOfAge$Giver") ∈ lw_all := lw_g (lw_at lw_m1 24 rfl) rfl
theorem q143 : (Jvm.Cond.fieldLink "SeenInOrderOfAge$Giver" (11 : Nat) "SeenInOrderOfAge$Panes" "sort" "[I") ∈ lw_all := lw_g (lw_at lw_m1 61 rfl) rfl
theorem q585 : (Jvm.Cond.selects "SeenInOrderOfAge$Giver" ({ cls := "SeenInOrderOfAge$Looker", name := "takes", desc := "(LSeenInOrderOfAge$Panes;I)I" } : Jvm.MethodName) ({ cls := "SeenInOrderOfAge$Old", name := "takes", desc := "(LSeenInOrderOfAge$Panes;I)I" } : Jvm.MethodName)) ∈ lw_all := lw_g (lw_at lw_m3 23 rfl) rfl
theorem q597 : (Jvm.Cond.selects "SeenInOrderOfAge$Giver" ({ cls := "SeenInOrderOfAge$Old", name := "wants", desc := "(LSeenInOrderOfAge$Panes;I)Z" } : Jvm.MethodName) ({ cls := "SeenInOrderOfAge$Giver", name := "wants", desc := "(LSeenInOrderOfAge$Panes;I)Z" } : Jvm.MethodName)) ∈ lw_all := lw_g (lw_at lw_m3 35 rfl) rfl
theorem q598 : (Jvm.Cond.instanceMethod ({ cls := "SeenInOrderOfAge$Giver", name := "wants", desc := "(LSeenInOrderOfAge$Panes;I)Z" } : Jvm.MethodName)) ∈ lw_all := lw_g (lw_at lw_m3 36 rfl) rfl
theorem q599 : (Jvm.Cond.code ({ cls := "SeenInOrderOfAge$Giver", name := "wants", desc := "(LSeenInOrderOfAge$Panes;I)Z" } : Jvm.MethodName) prog_5_method_3_code (3 : Nat) (Option.some Jvm.ClassFile.FieldType.boolean)) ∈ lw_all := lw_g (lw_at lw_m3 37 rfl) rfl
theorem q600 : (Jvm.Cond.methodLink "SeenInOrderOfAge$Giver" (7 : Nat) ({ cls := "SeenInOrderOfAge$Old", name := "wants", desc := "(LSeenInOrderOfAge$Panes;I)Z" } : Jvm.MethodName)) ∈ lw_all := lw_g (lw_at lw_m3 38 rfl) rfl
theorem q601 : (Jvm.Cond.superclass "SeenInOrderOfAge$Giver" "SeenInOrderOfAge$Old") ∈ lw_all := lw_g (lw_at lw_m3 39 rfl) rfl
theorem q602 : (Jvm.Cond.methodLink "SeenInOrderOfAge$Giver" (17 : Nat) ({ cls := "SeenInOrderOfAge$Panes", name := "many", desc := "(I)I" } : Jvm.MethodName)) ∈ lw_all := lw_g (lw_at lw_m3 40 rfl) rfl
theorem q635 : (Jvm.Cond.selects "SeenInOrderOfAge$Giver" ({ cls := "SeenInOrderOfAge$Looker", name := "one", desc := "(LSeenInOrderOfAge$Panes;I)I" } : Jvm.MethodName) ({ cls := "SeenInOrderOfAge$Looker", name := "one", desc := "(LSeenInOrderOfAge$Panes;I)I" } : Jvm.MethodName)) ∈ lw_all := lw_g (lw_at lw_m3 73 rfl) rfl
theorem q708 : (Jvm.Cond.instantiable "SeenInOrderOfAge$Giver" (2 : Nat)) ∈ lw_all := lw_g (lw_at lw_m3 146 rfl) rfl
theorem q710 : (Jvm.Cond.instanceMethod ({ cls := "SeenInOrderOfAge$Giver", name := "<init>", desc := "(II)V" } : Jvm.MethodName)) ∈ lw_all := lw_g (lw_at lw_m3 148 rfl) rfl
theorem q711 : (Jvm.Cond.code ({ cls := "SeenInOrderOfAge$Giver", name := "<init>", desc := "(II)V" } : Jvm.MethodName) prog_5_method_1_code (3 : Nat) (Option.none : Option Jvm.ClassFile.FieldType)) ∈ lw_all := lw_g (lw_at lw_m3 149 rfl) rfl
theorem q712 : (Jvm.Cond.methodLink "SeenInOrderOfAge$Giver" (1 : Nat) ({ cls := "SeenInOrderOfAge$Old", name := "<init>", desc := "(II)V" } : Jvm.MethodName)) ∈ lw_all := lw_g (lw_at lw_m3 150 rfl) rfl
theorem q713 : (Jvm.Cond.laysFinal "SeenInOrderOfAge$Giver" "SeenInOrderOfAge$Looker" "number" "I") ∈ lw_all := lw_g (lw_at lw_m3 151 rfl) rfl
theorem q714 : (Jvm.Cond.laysFinal "SeenInOrderOfAge$Giver" "SeenInOrderOfAge$Looker" "a" "I") ∈ lw_all := lw_g (lw_at lw_m3 152 rfl) rfl
theorem q1202 : (Jvm.Cond.selects "SeenInOrderOfAge$Giver" ({ cls := "SeenInOrderOfAge$Looker", name := "kind", desc := "()I" } : Jvm.MethodName) ({ cls := "SeenInOrderOfAge$Giver", name := "kind", desc := "()I" } : Jvm.MethodName)) ∈ lw_all := lw_g (lw_at lw_m5 160 rfl) rfl
theorem q1203 : (Jvm.Cond.instanceMethod ({ cls := "SeenInOrderOfAge$Giver", name := "kind", desc := "()I" } : Jvm.MethodName)) ∈ lw_all := lw_g (lw_at lw_m5 161 rfl) rfl
theorem q1204 : (Jvm.Cond.code ({ cls := "SeenInOrderOfAge$Giver", name := "kind", desc := "()I" } : Jvm.MethodName) prog_5_method_2_code (1 : Nat) (Option.some Jvm.ClassFile.FieldType.int)) ∈ lw_all := lw_g (lw_at lw_m5 162 rfl) rfl
theorem q2060 : (Jvm.Cond.castable "SeenInOrderOfAge$Giver" "SeenInOrderOfAge$Looker") ∈ lw_tbl := lw_at lw_m9 58 rfl
theorem q2065 : (Jvm.Cond.castable "SeenInOrderOfAge$Giver" "SeenInOrderOfAge$Old") ∈ lw_tbl := lw_at lw_m9 63 rfl

/-! X12 -/
abbrev cX12_takes : ByteArray := prog_14_method_3_code
def yX12_takes : MethodName := ⟨RX12, "takes", "(LSeenInOrderOfAge$Panes;I)I"⟩
def dkwX12_takes_3 : List UInt8 := [160, 0, 7, 3, 167, 0, 14, 43, 43, 4, 29, 120, 182, 0, 19, 182, 0, 22, 172]
abbrev dktX12_takes_3 : List UInt8 := dkwX12_takes_3 ++ []
def dkwX12_takes_2 : List UInt8 := [153, 0, 13, 21, 5, 153, 0, 8, 21, 4, 167, 0, 4, 29, 62, 132, 4, 1, 167, 255, 195, 29, 2]
abbrev dktX12_takes_2 : List UInt8 := dkwX12_takes_2 ++ dktX12_takes_3
def dkwX12_takes_1 : List UInt8 := [167, 0, 8, 43, 29, 182, 0, 9, 164, 0, 7, 4, 167, 0, 4, 3, 54, 5, 28, 21, 4, 184, 0, 15]
abbrev dktX12_takes_1 : List UInt8 := dkwX12_takes_1 ++ dktX12_takes_2
def dkwX12_takes_0 : List UInt8 := [2, 62, 3, 54, 4, 21, 4, 16, 8, 162, 0, 60, 43, 21, 4, 182, 0, 9, 29, 2, 160, 0, 7, 3]
abbrev dktX12_takes_0 : List UInt8 := dkwX12_takes_0 ++ dktX12_takes_1
theorem dksX12_takes_0 : cX12_takes.data.toList.drop 0 = dktX12_takes_0 := by decide +kernel
theorem dksX12_takes_1 : cX12_takes.data.toList.drop 24 = dktX12_takes_1 := dk_seg dksX12_takes_0 24 rfl rfl
theorem dksX12_takes_2 : cX12_takes.data.toList.drop 48 = dktX12_takes_2 := dk_seg dksX12_takes_1 24 rfl rfl
theorem dksX12_takes_3 : cX12_takes.data.toList.drop 71 = dktX12_takes_3 := dk_seg dksX12_takes_2 23 rfl rfl
theorem dX12_takes_0 : decode cX12_takes 0 = .ok (.iconst (-1), 1) := dk_2 (dk_at dksX12_takes_0 0 rfl rfl)
theorem dX12_takes_1 : decode cX12_takes 1 = .ok (.istore_n 3, 1) := dk_62 (dk_at dksX12_takes_0 1 rfl rfl)
theorem dX12_takes_2 : decode cX12_takes 2 = .ok (.iconst 0, 1) := dk_3 (dk_at dksX12_takes_0 2 rfl rfl)
theorem dX12_takes_3 : decode cX12_takes 3 = .ok (.istore 4, 2) := dk_54 4 (dk_at dksX12_takes_0 3 rfl rfl)
theorem dX12_takes_5 : decode cX12_takes 5 = .ok (.iload 4, 2) := dk_21 4 (dk_at dksX12_takes_0 5 rfl rfl)
theorem dX12_takes_7 : decode cX12_takes 7 = .ok (.bipush 8, 2) := dk_16 8 (dk_at dksX12_takes_0 7 rfl rfl)
theorem dX12_takes_9 : decode cX12_takes 9 = .ok (.if_icmp .ge 60, 3) := dk_162 0 60 (dk_at dksX12_takes_0 9 rfl rfl)
theorem dX12_takes_12 : decode cX12_takes 12 = .ok (.aload_n 1, 1) := dk_43 (dk_at dksX12_takes_0 12 rfl rfl)
theorem dX12_takes_13 : decode cX12_takes 13 = .ok (.iload 4, 2) := dk_21 4 (dk_at dksX12_takes_0 13 rfl rfl)
theorem dX12_takes_15 : decode cX12_takes 15 = .ok (.invokevirtual 9, 3) := dk_182 0 9 (dk_at dksX12_takes_0 15 rfl rfl)
theorem dX12_takes_18 : decode cX12_takes 18 = .ok (.iload_n 3, 1) := dk_29 (dk_at dksX12_takes_0 18 rfl rfl)
theorem dX12_takes_19 : decode cX12_takes 19 = .ok (.iconst (-1), 1) := dk_2 (dk_at dksX12_takes_0 19 rfl rfl)
theorem dX12_takes_20 : decode cX12_takes 20 = .ok (.if_icmp .ne 7, 3) := dk_160 0 7 (dk_at dksX12_takes_0 20 rfl rfl)
theorem dX12_takes_23 : decode cX12_takes 23 = .ok (.iconst 0, 1) := dk_3 (dk_at dksX12_takes_0 23 rfl rfl)
theorem dX12_takes_24 : decode cX12_takes 24 = .ok (.goto 8, 3) := dk_167 0 8 (dk_at dksX12_takes_1 0 rfl rfl)
theorem dX12_takes_27 : decode cX12_takes 27 = .ok (.aload_n 1, 1) := dk_43 (dk_at dksX12_takes_1 3 rfl rfl)
theorem dX12_takes_28 : decode cX12_takes 28 = .ok (.iload_n 3, 1) := dk_29 (dk_at dksX12_takes_1 4 rfl rfl)
theorem dX12_takes_29 : decode cX12_takes 29 = .ok (.invokevirtual 9, 3) := dk_182 0 9 (dk_at dksX12_takes_1 5 rfl rfl)
theorem dX12_takes_32 : decode cX12_takes 32 = .ok (.if_icmp .le 7, 3) := dk_164 0 7 (dk_at dksX12_takes_1 8 rfl rfl)
theorem dX12_takes_35 : decode cX12_takes 35 = .ok (.iconst 1, 1) := dk_4 (dk_at dksX12_takes_1 11 rfl rfl)
theorem dX12_takes_36 : decode cX12_takes 36 = .ok (.goto 4, 3) := dk_167 0 4 (dk_at dksX12_takes_1 12 rfl rfl)
theorem dX12_takes_39 : decode cX12_takes 39 = .ok (.iconst 0, 1) := dk_3 (dk_at dksX12_takes_1 15 rfl rfl)
theorem dX12_takes_40 : decode cX12_takes 40 = .ok (.istore 5, 2) := dk_54 5 (dk_at dksX12_takes_1 16 rfl rfl)
theorem dX12_takes_42 : decode cX12_takes 42 = .ok (.iload_n 2, 1) := dk_28 (dk_at dksX12_takes_1 18 rfl rfl)
theorem dX12_takes_43 : decode cX12_takes 43 = .ok (.iload 4, 2) := dk_21 4 (dk_at dksX12_takes_1 19 rfl rfl)
theorem dX12_takes_45 : decode cX12_takes 45 = .ok (.invokestatic 15, 3) := dk_184 0 15 (dk_at dksX12_takes_1 21 rfl rfl)
theorem dX12_takes_48 : decode cX12_takes 48 = .ok (.ifCond .eq 13, 3) := dk_153 0 13 (dk_at dksX12_takes_2 0 rfl rfl)
theorem dX12_takes_51 : decode cX12_takes 51 = .ok (.iload 5, 2) := dk_21 5 (dk_at dksX12_takes_2 3 rfl rfl)
theorem dX12_takes_53 : decode cX12_takes 53 = .ok (.ifCond .eq 8, 3) := dk_153 0 8 (dk_at dksX12_takes_2 5 rfl rfl)
theorem dX12_takes_56 : decode cX12_takes 56 = .ok (.iload 4, 2) := dk_21 4 (dk_at dksX12_takes_2 8 rfl rfl)
theorem dX12_takes_58 : decode cX12_takes 58 = .ok (.goto 4, 3) := dk_167 0 4 (dk_at dksX12_takes_2 10 rfl rfl)
theorem dX12_takes_61 : decode cX12_takes 61 = .ok (.iload_n 3, 1) := dk_29 (dk_at dksX12_takes_2 13 rfl rfl)
theorem dX12_takes_62 : decode cX12_takes 62 = .ok (.istore_n 3, 1) := dk_62 (dk_at dksX12_takes_2 14 rfl rfl)
theorem dX12_takes_63 : decode cX12_takes 63 = .ok (.iinc 4 1, 3) := dk_132 4 1 (dk_at dksX12_takes_2 15 rfl rfl)
theorem dX12_takes_66 : decode cX12_takes 66 = .ok (.goto (-61), 3) := dk_167 255 195 (dk_at dksX12_takes_2 18 rfl rfl)
theorem dX12_takes_69 : decode cX12_takes 69 = .ok (.iload_n 3, 1) := dk_29 (dk_at dksX12_takes_2 21 rfl rfl)
theorem dX12_takes_70 : decode cX12_takes 70 = .ok (.iconst (-1), 1) := dk_2 (dk_at dksX12_takes_2 22 rfl rfl)
theorem dX12_takes_71 : decode cX12_takes 71 = .ok (.if_icmp .ne 7, 3) := dk_160 0 7 (dk_at dksX12_takes_3 0 rfl rfl)
theorem dX12_takes_74 : decode cX12_takes 74 = .ok (.iconst 0, 1) := dk_3 (dk_at dksX12_takes_3 3 rfl rfl)
theorem dX12_takes_75 : decode cX12_takes 75 = .ok (.goto 14, 3) := dk_167 0 14 (dk_at dksX12_takes_3 4 rfl rfl)
theorem dX12_takes_78 : decode cX12_takes 78 = .ok (.aload_n 1, 1) := dk_43 (dk_at dksX12_takes_3 7 rfl rfl)
theorem dX12_takes_79 : decode cX12_takes 79 = .ok (.aload_n 1, 1) := dk_43 (dk_at dksX12_takes_3 8 rfl rfl)
theorem dX12_takes_80 : decode cX12_takes 80 = .ok (.iconst 1, 1) := dk_4 (dk_at dksX12_takes_3 9 rfl rfl)
theorem dX12_takes_81 : decode cX12_takes 81 = .ok (.iload_n 3, 1) := dk_29 (dk_at dksX12_takes_3 10 rfl rfl)
theorem dX12_takes_82 : decode cX12_takes 82 = .ok (.ishl, 1) := dk_120 (dk_at dksX12_takes_3 11 rfl rfl)
theorem dX12_takes_83 : decode cX12_takes 83 = .ok (.invokevirtual 19, 3) := dk_182 0 19 (dk_at dksX12_takes_3 12 rfl rfl)
theorem dX12_takes_86 : decode cX12_takes 86 = .ok (.invokevirtual 22, 3) := dk_182 0 22 (dk_at dksX12_takes_3 15 rfl rfl)
theorem dX12_takes_89 : decode cX12_takes 89 = .ok (.ireturn, 1) := dk_172 (dk_at dksX12_takes_3 18 rfl rfl)
abbrev cX12_init : ByteArray := prog_14_method_1_code
def yX12_init : MethodName := ⟨RX12, "<init>", "(II)V"⟩
def dkwX12_init_0 : List UInt8 := [42, 27, 28, 183, 0, 3, 177]
abbrev dktX12_init_0 : List UInt8 := dkwX12_init_0 ++ []
theorem dksX12_init_0 : cX12_init.data.toList.drop 0 = dktX12_init_0 := by decide +kernel
theorem dX12_init_0 : decode cX12_init 0 = .ok (.aload_n 0, 1) := dk_42 (dk_at dksX12_init_0 0 rfl rfl)
theorem dX12_init_1 : decode cX12_init 1 = .ok (.iload_n 1, 1) := dk_27 (dk_at dksX12_init_0 1 rfl rfl)
theorem dX12_init_2 : decode cX12_init 2 = .ok (.iload_n 2, 1) := dk_28 (dk_at dksX12_init_0 2 rfl rfl)
theorem dX12_init_3 : decode cX12_init 3 = .ok (.invokespecial 3, 3) := dk_183 0 3 (dk_at dksX12_init_0 3 rfl rfl)
theorem dX12_init_6 : decode cX12_init 6 = .ok (.return_, 1) := dk_177 (dk_at dksX12_init_0 6 rfl rfl)
abbrev cX12_kind : ByteArray := prog_14_method_2_code
def yX12_kind : MethodName := ⟨RX12, "kind", "()I"⟩
theorem dX12_kind_0 : decode cX12_kind 0 = .ok (.iconst 5, 1) := by decide +kernel
theorem dX12_kind_1 : decode cX12_kind 1 = .ok (.ireturn, 1) := by decide +kernel
theorem q107 : (Jvm.Cond.initialized "SeenInOrderOfAge$Shy") ∈ lw_all := lw_g (lw_at lw_m1 25 rfl) rfl
theorem q622 : (Jvm.Cond.selects "SeenInOrderOfAge$Shy" ({ cls := "SeenInOrderOfAge$Looker", name := "takes", desc := "(LSeenInOrderOfAge$Panes;I)I" } : Jvm.MethodName) ({ cls := "SeenInOrderOfAge$Shy", name := "takes", desc := "(LSeenInOrderOfAge$Panes;I)I" } : Jvm.MethodName)) ∈ lw_all := lw_g (lw_at lw_m3 60 rfl) rfl
theorem q623 : (Jvm.Cond.instanceMethod ({ cls := "SeenInOrderOfAge$Shy", name := "takes", desc := "(LSeenInOrderOfAge$Panes;I)I" } : Jvm.MethodName)) ∈ lw_all := lw_g (lw_at lw_m3 61 rfl) rfl
theorem q624 : (Jvm.Cond.code ({ cls := "SeenInOrderOfAge$Shy", name := "takes", desc := "(LSeenInOrderOfAge$Panes;I)I" } : Jvm.MethodName) prog_14_method_3_code (6 : Nat) (Option.some Jvm.ClassFile.FieldType.int)) ∈ lw_all := lw_g (lw_at lw_m3 62 rfl) rfl
theorem q625 : (Jvm.Cond.methodLink "SeenInOrderOfAge$Shy" (9 : Nat) ({ cls := "SeenInOrderOfAge$Panes", name := "many", desc := "(I)I" } : Jvm.MethodName)) ∈ lw_all := lw_g (lw_at lw_m3 63 rfl) rfl
theorem q626 : (Jvm.Cond.methodLinkNest "SeenInOrderOfAge$Shy" (15 : Nat) ({ cls := "SeenInOrderOfAge", name := "has", desc := "(II)Z" } : Jvm.MethodName) "SeenInOrderOfAge") ∈ lw_tbl := lw_at lw_m3 64 rfl
theorem q627 : (Jvm.Cond.methodLink "SeenInOrderOfAge$Shy" (19 : Nat) ({ cls := "SeenInOrderOfAge$Panes", name := "firstOf", desc := "(I)I" } : Jvm.MethodName)) ∈ lw_all := lw_g (lw_at lw_m3 65 rfl) rfl
theorem q628 : (Jvm.Cond.methodLink "SeenInOrderOfAge$Shy" (22 : Nat) ({ cls := "SeenInOrderOfAge$Panes", name := "takes", desc := "(I)I" } : Jvm.MethodName)) ∈ lw_all := lw_g (lw_at lw_m3 66 rfl) rfl
theorem q638 : (Jvm.Cond.selects "SeenInOrderOfAge$Shy" ({ cls := "SeenInOrderOfAge$Looker", name := "one", desc := "(LSeenInOrderOfAge$Panes;I)I" } : Jvm.MethodName) ({ cls := "SeenInOrderOfAge$Looker", name := "one", desc := "(LSeenInOrderOfAge$Panes;I)I" } : Jvm.MethodName)) ∈ lw_all := lw_g (lw_at lw_m3 76 rfl) rfl
theorem q715 : (Jvm.Cond.instantiable "SeenInOrderOfAge$Shy" (2 : Nat)) ∈ lw_all := lw_g (lw_at lw_m3 153 rfl) rfl
theorem q717 : (Jvm.Cond.instanceMethod ({ cls := "SeenInOrderOfAge$Shy", name := "<init>", desc := "(II)V" } : Jvm.MethodName)) ∈ lw_all := lw_g (lw_at lw_m3 155 rfl) rfl
theorem q718 : (Jvm.Cond.code ({ cls := "SeenInOrderOfAge$Shy", name := "<init>", desc := "(II)V" } : Jvm.MethodName) prog_14_method_1_code (3 : Nat) (Option.none : Option Jvm.ClassFile.FieldType)) ∈ lw_all := lw_g (lw_at lw_m3 156 rfl) rfl
theorem q719 : (Jvm.Cond.methodLink "SeenInOrderOfAge$Shy" (3 : Nat) ({ cls := "SeenInOrderOfAge$Looker", name := "<init>", desc := "(II)V" } : Jvm.MethodName)) ∈ lw_all := lw_g (lw_at lw_m3 157 rfl) rfl
theorem q720 : (Jvm.Cond.laysFinal "SeenInOrderOfAge$Shy" "SeenInOrderOfAge$Looker" "number" "I") ∈ lw_all := lw_g (lw_at lw_m3 158 rfl) rfl
theorem q721 : (Jvm.Cond.laysFinal "SeenInOrderOfAge$Shy" "SeenInOrderOfAge$Looker" "a" "I") ∈ lw_all := lw_g (lw_at lw_m3 159 rfl) rfl
theorem q722 : (Jvm.Cond.superclass "SeenInOrderOfAge$Shy" "SeenInOrderOfAge$Looker") ∈ lw_all := lw_g (lw_at lw_m3 160 rfl) rfl
theorem q1211 : (Jvm.Cond.selects "SeenInOrderOfAge$Shy" ({ cls := "SeenInOrderOfAge$Looker", name := "kind", desc := "()I" } : Jvm.MethodName) ({ cls := "SeenInOrderOfAge$Shy", name := "kind", desc := "()I" } : Jvm.MethodName)) ∈ lw_all := lw_g (lw_at lw_m5 169 rfl) rfl
theorem q1212 : (Jvm.Cond.instanceMethod ({ cls := "SeenInOrderOfAge$Shy", name := "kind", desc := "()I" } : Jvm.MethodName)) ∈ lw_all := lw_g (lw_at lw_m5 170 rfl) rfl
theorem q1213 : (Jvm.Cond.code ({ cls := "SeenInOrderOfAge$Shy", name := "kind", desc := "()I" } : Jvm.MethodName) prog_14_method_2_code (1 : Nat) (Option.some Jvm.ClassFile.FieldType.int)) ∈ lw_all := lw_g (lw_at lw_m5 171 rfl) rfl
theorem q2063 : (Jvm.Cond.castable "SeenInOrderOfAge$Shy" "SeenInOrderOfAge$Looker") ∈ lw_tbl := lw_at lw_m9 61 rfl

/-! X13 -/
abbrev cX13_init : ByteArray := prog_11_method_1_code
def yX13_init : MethodName := ⟨RX13, "<init>", "([IILSeenInOrderOfAge$Window;)V"⟩
def dkwX13_init_0 : List UInt8 := [42, 183, 0, 3, 42, 43, 181, 0, 9, 42, 28, 181, 0, 15, 42, 45, 181, 0, 19, 177]
abbrev dktX13_init_0 : List UInt8 := dkwX13_init_0 ++ []
theorem dksX13_init_0 : cX13_init.data.toList.drop 0 = dktX13_init_0 := by decide +kernel
theorem dX13_init_0 : decode cX13_init 0 = .ok (.aload_n 0, 1) := dk_42 (dk_at dksX13_init_0 0 rfl rfl)
theorem dX13_init_1 : decode cX13_init 1 = .ok (.invokespecial 3, 3) := dk_183 0 3 (dk_at dksX13_init_0 1 rfl rfl)
theorem dX13_init_4 : decode cX13_init 4 = .ok (.aload_n 0, 1) := dk_42 (dk_at dksX13_init_0 4 rfl rfl)
theorem dX13_init_5 : decode cX13_init 5 = .ok (.aload_n 1, 1) := dk_43 (dk_at dksX13_init_0 5 rfl rfl)
theorem dX13_init_6 : decode cX13_init 6 = .ok (.putfield 9, 3) := dk_181 0 9 (dk_at dksX13_init_0 6 rfl rfl)
theorem dX13_init_9 : decode cX13_init 9 = .ok (.aload_n 0, 1) := dk_42 (dk_at dksX13_init_0 9 rfl rfl)
theorem dX13_init_10 : decode cX13_init 10 = .ok (.iload_n 2, 1) := dk_28 (dk_at dksX13_init_0 10 rfl rfl)
theorem dX13_init_11 : decode cX13_init 11 = .ok (.putfield 15, 3) := dk_181 0 15 (dk_at dksX13_init_0 11 rfl rfl)
theorem dX13_init_14 : decode cX13_init 14 = .ok (.aload_n 0, 1) := dk_42 (dk_at dksX13_init_0 14 rfl rfl)
theorem dX13_init_15 : decode cX13_init 15 = .ok (.aload_n 3, 1) := dk_45 (dk_at dksX13_init_0 15 rfl rfl)
theorem dX13_init_16 : decode cX13_init 16 = .ok (.putfield 19, 3) := dk_181 0 19 (dk_at dksX13_init_0 16 rfl rfl)
theorem dX13_init_19 : decode cX13_init 19 = .ok (.return_, 1) := dk_177 (dk_at dksX13_init_0 19 rfl rfl)
abbrev cX13_read : ByteArray := prog_11_method_10_code
def yX13_read : MethodName := ⟨RX13, "read", "()I"⟩
def dkwX13_read_1 : List UInt8 := [182, 0, 126, 154, 0, 8, 42, 182, 0, 73, 191, 42, 182, 0, 123, 132, 1, 1, 167, 255, 224, 27, 172]
abbrev dktX13_read_1 : List UInt8 := dkwX13_read_1 ++ []
def dkwX13_read_0 : List UInt8 := [4, 60, 42, 182, 0, 70, 42, 182, 0, 123, 42, 180, 0, 30, 42, 180, 0, 15, 162, 0, 27, 42, 18, 57]
abbrev dktX13_read_0 : List UInt8 := dkwX13_read_0 ++ dktX13_read_1
theorem dksX13_read_0 : cX13_read.data.toList.drop 0 = dktX13_read_0 := by decide +kernel
theorem dksX13_read_1 : cX13_read.data.toList.drop 24 = dktX13_read_1 := dk_seg dksX13_read_0 24 rfl rfl
theorem dX13_read_0 : decode cX13_read 0 = .ok (.iconst 1, 1) := dk_4 (dk_at dksX13_read_0 0 rfl rfl)
theorem dX13_read_1 : decode cX13_read 1 = .ok (.istore_n 1, 1) := dk_60 (dk_at dksX13_read_0 1 rfl rfl)
theorem dX13_read_2 : decode cX13_read 2 = .ok (.aload_n 0, 1) := dk_42 (dk_at dksX13_read_0 2 rfl rfl)
theorem dX13_read_3 : decode cX13_read 3 = .ok (.invokevirtual 70, 3) := dk_182 0 70 (dk_at dksX13_read_0 3 rfl rfl)
theorem dX13_read_6 : decode cX13_read 6 = .ok (.aload_n 0, 1) := dk_42 (dk_at dksX13_read_0 6 rfl rfl)
theorem dX13_read_7 : decode cX13_read 7 = .ok (.invokevirtual 123, 3) := dk_182 0 123 (dk_at dksX13_read_0 7 rfl rfl)
theorem dX13_read_10 : decode cX13_read 10 = .ok (.aload_n 0, 1) := dk_42 (dk_at dksX13_read_0 10 rfl rfl)
theorem dX13_read_11 : decode cX13_read 11 = .ok (.getfield 30, 3) := dk_180 0 30 (dk_at dksX13_read_0 11 rfl rfl)
theorem dX13_read_14 : decode cX13_read 14 = .ok (.aload_n 0, 1) := dk_42 (dk_at dksX13_read_0 14 rfl rfl)
theorem dX13_read_15 : decode cX13_read 15 = .ok (.getfield 15, 3) := dk_180 0 15 (dk_at dksX13_read_0 15 rfl rfl)
theorem dX13_read_18 : decode cX13_read 18 = .ok (.if_icmp .ge 27, 3) := dk_162 0 27 (dk_at dksX13_read_0 18 rfl rfl)
theorem dX13_read_21 : decode cX13_read 21 = .ok (.aload_n 0, 1) := dk_42 (dk_at dksX13_read_0 21 rfl rfl)
theorem dX13_read_22 : decode cX13_read 22 = .ok (.ldc 57, 2) := dk_18 57 (dk_at dksX13_read_0 22 rfl rfl)
theorem dX13_read_24 : decode cX13_read 24 = .ok (.invokevirtual 126, 3) := dk_182 0 126 (dk_at dksX13_read_1 0 rfl rfl)
theorem dX13_read_27 : decode cX13_read 27 = .ok (.ifCond .ne 8, 3) := dk_154 0 8 (dk_at dksX13_read_1 3 rfl rfl)
theorem dX13_read_30 : decode cX13_read 30 = .ok (.aload_n 0, 1) := dk_42 (dk_at dksX13_read_1 6 rfl rfl)
theorem dX13_read_31 : decode cX13_read 31 = .ok (.invokevirtual 73, 3) := dk_182 0 73 (dk_at dksX13_read_1 7 rfl rfl)
theorem dX13_read_34 : decode cX13_read 34 = .ok (.athrow, 1) := dk_191 (dk_at dksX13_read_1 10 rfl rfl)
theorem dX13_read_35 : decode cX13_read 35 = .ok (.aload_n 0, 1) := dk_42 (dk_at dksX13_read_1 11 rfl rfl)
theorem dX13_read_36 : decode cX13_read 36 = .ok (.invokevirtual 123, 3) := dk_182 0 123 (dk_at dksX13_read_1 12 rfl rfl)
theorem dX13_read_39 : decode cX13_read 39 = .ok (.iinc 1 1, 3) := dk_132 1 1 (dk_at dksX13_read_1 15 rfl rfl)
theorem dX13_read_42 : decode cX13_read 42 = .ok (.goto (-32), 3) := dk_167 255 224 (dk_at dksX13_read_1 18 rfl rfl)
theorem dX13_read_45 : decode cX13_read 45 = .ok (.iload_n 1, 1) := dk_27 (dk_at dksX13_read_1 21 rfl rfl)
theorem dX13_read_46 : decode cX13_read 46 = .ok (.ireturn, 1) := dk_172 (dk_at dksX13_read_1 22 rfl rfl)
abbrev cX13_next : ByteArray := prog_11_method_3_code
def yX13_next : MethodName := ⟨RX13, "next", "()V"⟩
def dkwX13_next_9 : List UInt8 := [181, 0, 33, 42, 89, 180, 0, 23, 4, 96, 181, 0, 23, 177]
abbrev dktX13_next_9 : List UInt8 := dkwX13_next_9 ++ []
def dkwX13_next_8 : List UInt8 := [167, 0, 4, 27, 181, 0, 37, 167, 0, 30, 42, 16, 59, 16, 59, 182, 0, 26, 153, 0, 19, 42, 18, 57]
abbrev dktX13_next_8 : List UInt8 := dkwX13_next_8 ++ dktX13_next_9
def dkwX13_next_7 : List UInt8 := [96, 181, 0, 23, 167, 255, 212, 42, 42, 180, 0, 23, 42, 180, 0, 30, 100, 5, 164, 0, 8, 16, 100]
abbrev dktX13_next_7 : List UInt8 := dkwX13_next_7 ++ dktX13_next_8
def dkwX13_next_6 : List UInt8 := [104, 42, 180, 0, 9, 42, 180, 0, 23, 46, 96, 16, 48, 100, 184, 0, 51, 60, 42, 89, 180, 0, 23, 4]
abbrev dktX13_next_6 : List UInt8 := dkwX13_next_6 ++ dktX13_next_7
def dkwX13_next_5 : List UInt8 := [182, 0, 26, 153, 0, 78, 3, 60, 42, 16, 48, 16, 57, 182, 0, 26, 153, 0, 39, 16, 100, 16, 10, 27]
abbrev dktX13_next_5 : List UInt8 := dkwX13_next_5 ++ dktX13_next_6
def dkwX13_next_4 : List UInt8 := [96, 181, 0, 23, 167, 255, 220, 42, 43, 182, 0, 47, 181, 0, 33, 167, 0, 116, 42, 16, 48, 16, 57]
abbrev dktX13_next_4 : List UInt8 := dkwX13_next_4 ++ dktX13_next_5
def dkwX13_next_3 : List UInt8 := [153, 0, 31, 43, 42, 180, 0, 9, 42, 180, 0, 23, 46, 146, 182, 0, 43, 87, 42, 89, 180, 0, 23, 4]
abbrev dktX13_next_3 : List UInt8 := dkwX13_next_3 ++ dktX13_next_4
def dkwX13_next_2 : List UInt8 := [182, 0, 26, 153, 0, 61, 187, 0, 40, 89, 183, 0, 42, 76, 42, 16, 97, 16, 122, 182, 0, 26]
abbrev dktX13_next_2 : List UInt8 := dkwX13_next_2 ++ dktX13_next_3
def dkwX13_next_1 : List UInt8 := [42, 42, 180, 0, 23, 181, 0, 30, 42, 1, 181, 0, 33, 42, 2, 181, 0, 37, 42, 16, 97, 16, 122]
abbrev dktX13_next_1 : List UInt8 := dkwX13_next_1 ++ dktX13_next_2
def dkwX13_next_0 : List UInt8 := [42, 16, 32, 16, 32, 182, 0, 26, 153, 0, 16, 42, 89, 180, 0, 23, 4, 96, 181, 0, 23, 167, 255, 235]
abbrev dktX13_next_0 : List UInt8 := dkwX13_next_0 ++ dktX13_next_1
theorem dksX13_next_0 : cX13_next.data.toList.drop 0 = dktX13_next_0 := by decide +kernel
theorem dksX13_next_1 : cX13_next.data.toList.drop 24 = dktX13_next_1 := dk_seg dksX13_next_0 24 rfl rfl
theorem dksX13_next_2 : cX13_next.data.toList.drop 47 = dktX13_next_2 := dk_seg dksX13_next_1 23 rfl rfl
theorem dksX13_next_3 : cX13_next.data.toList.drop 69 = dktX13_next_3 := dk_seg dksX13_next_2 22 rfl rfl
theorem dksX13_next_4 : cX13_next.data.toList.drop 93 = dktX13_next_4 := dk_seg dksX13_next_3 24 rfl rfl
theorem dksX13_next_5 : cX13_next.data.toList.drop 116 = dktX13_next_5 := dk_seg dksX13_next_4 23 rfl rfl
theorem dksX13_next_6 : cX13_next.data.toList.drop 140 = dktX13_next_6 := dk_seg dksX13_next_5 24 rfl rfl
theorem dksX13_next_7 : cX13_next.data.toList.drop 164 = dktX13_next_7 := dk_seg dksX13_next_6 24 rfl rfl
theorem dksX13_next_8 : cX13_next.data.toList.drop 187 = dktX13_next_8 := dk_seg dksX13_next_7 23 rfl rfl
theorem dksX13_next_9 : cX13_next.data.toList.drop 211 = dktX13_next_9 := dk_seg dksX13_next_8 24 rfl rfl
theorem dX13_next_0 : decode cX13_next 0 = .ok (.aload_n 0, 1) := dk_42 (dk_at dksX13_next_0 0 rfl rfl)
theorem dX13_next_1 : decode cX13_next 1 = .ok (.bipush 32, 2) := dk_16 32 (dk_at dksX13_next_0 1 rfl rfl)
theorem dX13_next_3 : decode cX13_next 3 = .ok (.bipush 32, 2) := dk_16 32 (dk_at dksX13_next_0 3 rfl rfl)
theorem dX13_next_5 : decode cX13_next 5 = .ok (.invokevirtual 26, 3) := dk_182 0 26 (dk_at dksX13_next_0 5 rfl rfl)
theorem dX13_next_8 : decode cX13_next 8 = .ok (.ifCond .eq 16, 3) := dk_153 0 16 (dk_at dksX13_next_0 8 rfl rfl)
theorem dX13_next_11 : decode cX13_next 11 = .ok (.aload_n 0, 1) := dk_42 (dk_at dksX13_next_0 11 rfl rfl)
theorem dX13_next_12 : decode cX13_next 12 = .ok (.dup, 1) := dk_89 (dk_at dksX13_next_0 12 rfl rfl)
theorem dX13_next_13 : decode cX13_next 13 = .ok (.getfield 23, 3) := dk_180 0 23 (dk_at dksX13_next_0 13 rfl rfl)
theorem dX13_next_16 : decode cX13_next 16 = .ok (.iconst 1, 1) := dk_4 (dk_at dksX13_next_0 16 rfl rfl)
theorem dX13_next_17 : decode cX13_next 17 = .ok (.iadd, 1) := dk_96 (dk_at dksX13_next_0 17 rfl rfl)
theorem dX13_next_18 : decode cX13_next 18 = .ok (.putfield 23, 3) := dk_181 0 23 (dk_at dksX13_next_0 18 rfl rfl)
theorem dX13_next_21 : decode cX13_next 21 = .ok (.goto (-21), 3) := dk_167 255 235 (dk_at dksX13_next_0 21 rfl rfl)
theorem dX13_next_24 : decode cX13_next 24 = .ok (.aload_n 0, 1) := dk_42 (dk_at dksX13_next_1 0 rfl rfl)
theorem dX13_next_25 : decode cX13_next 25 = .ok (.aload_n 0, 1) := dk_42 (dk_at dksX13_next_1 1 rfl rfl)
theorem dX13_next_26 : decode cX13_next 26 = .ok (.getfield 23, 3) := dk_180 0 23 (dk_at dksX13_next_1 2 rfl rfl)
theorem dX13_next_29 : decode cX13_next 29 = .ok (.putfield 30, 3) := dk_181 0 30 (dk_at dksX13_next_1 5 rfl rfl)
theorem dX13_next_32 : decode cX13_next 32 = .ok (.aload_n 0, 1) := dk_42 (dk_at dksX13_next_1 8 rfl rfl)
theorem dX13_next_33 : decode cX13_next 33 = .ok (.aconst_null, 1) := dk_1 (dk_at dksX13_next_1 9 rfl rfl)
theorem dX13_next_34 : decode cX13_next 34 = .ok (.putfield 33, 3) := dk_181 0 33 (dk_at dksX13_next_1 10 rfl rfl)
theorem dX13_next_37 : decode cX13_next 37 = .ok (.aload_n 0, 1) := dk_42 (dk_at dksX13_next_1 13 rfl rfl)
theorem dX13_next_38 : decode cX13_next 38 = .ok (.iconst (-1), 1) := dk_2 (dk_at dksX13_next_1 14 rfl rfl)
theorem dX13_next_39 : decode cX13_next 39 = .ok (.putfield 37, 3) := dk_181 0 37 (dk_at dksX13_next_1 15 rfl rfl)
theorem dX13_next_42 : decode cX13_next 42 = .ok (.aload_n 0, 1) := dk_42 (dk_at dksX13_next_1 18 rfl rfl)
theorem dX13_next_43 : decode cX13_next 43 = .ok (.bipush 97, 2) := dk_16 97 (dk_at dksX13_next_1 19 rfl rfl)
theorem dX13_next_45 : decode cX13_next 45 = .ok (.bipush 122, 2) := dk_16 122 (dk_at dksX13_next_1 21 rfl rfl)
theorem dX13_next_47 : decode cX13_next 47 = .ok (.invokevirtual 26, 3) := dk_182 0 26 (dk_at dksX13_next_2 0 rfl rfl)
theorem dX13_next_50 : decode cX13_next 50 = .ok (.ifCond .eq 61, 3) := dk_153 0 61 (dk_at dksX13_next_2 3 rfl rfl)
theorem dX13_next_53 : decode cX13_next 53 = .ok (.new 40, 3) := dk_187 0 40 (dk_at dksX13_next_2 6 rfl rfl)
theorem dX13_next_56 : decode cX13_next 56 = .ok (.dup, 1) := dk_89 (dk_at dksX13_next_2 9 rfl rfl)
theorem dX13_next_57 : decode cX13_next 57 = .ok (.invokespecial 42, 3) := dk_183 0 42 (dk_at dksX13_next_2 10 rfl rfl)
theorem dX13_next_60 : decode cX13_next 60 = .ok (.astore_n 1, 1) := dk_76 (dk_at dksX13_next_2 13 rfl rfl)
theorem dX13_next_61 : decode cX13_next 61 = .ok (.aload_n 0, 1) := dk_42 (dk_at dksX13_next_2 14 rfl rfl)
theorem dX13_next_62 : decode cX13_next 62 = .ok (.bipush 97, 2) := dk_16 97 (dk_at dksX13_next_2 15 rfl rfl)
theorem dX13_next_64 : decode cX13_next 64 = .ok (.bipush 122, 2) := dk_16 122 (dk_at dksX13_next_2 17 rfl rfl)
theorem dX13_next_66 : decode cX13_next 66 = .ok (.invokevirtual 26, 3) := dk_182 0 26 (dk_at dksX13_next_2 19 rfl rfl)
theorem dX13_next_69 : decode cX13_next 69 = .ok (.ifCond .eq 31, 3) := dk_153 0 31 (dk_at dksX13_next_3 0 rfl rfl)
theorem dX13_next_72 : decode cX13_next 72 = .ok (.aload_n 1, 1) := dk_43 (dk_at dksX13_next_3 3 rfl rfl)
theorem dX13_next_73 : decode cX13_next 73 = .ok (.aload_n 0, 1) := dk_42 (dk_at dksX13_next_3 4 rfl rfl)
theorem dX13_next_74 : decode cX13_next 74 = .ok (.getfield 9, 3) := dk_180 0 9 (dk_at dksX13_next_3 5 rfl rfl)
theorem dX13_next_77 : decode cX13_next 77 = .ok (.aload_n 0, 1) := dk_42 (dk_at dksX13_next_3 8 rfl rfl)
theorem dX13_next_78 : decode cX13_next 78 = .ok (.getfield 23, 3) := dk_180 0 23 (dk_at dksX13_next_3 9 rfl rfl)
theorem dX13_next_81 : decode cX13_next 81 = .ok (.iaload, 1) := dk_46 (dk_at dksX13_next_3 12 rfl rfl)
theorem dX13_next_82 : decode cX13_next 82 = .ok (.i2c, 1) := dk_146 (dk_at dksX13_next_3 13 rfl rfl)
theorem dX13_next_83 : decode cX13_next 83 = .ok (.invokevirtual 43, 3) := dk_182 0 43 (dk_at dksX13_next_3 14 rfl rfl)
theorem dX13_next_86 : decode cX13_next 86 = .ok (.pop, 1) := dk_87 (dk_at dksX13_next_3 17 rfl rfl)
theorem dX13_next_87 : decode cX13_next 87 = .ok (.aload_n 0, 1) := dk_42 (dk_at dksX13_next_3 18 rfl rfl)
theorem dX13_next_88 : decode cX13_next 88 = .ok (.dup, 1) := dk_89 (dk_at dksX13_next_3 19 rfl rfl)
theorem dX13_next_89 : decode cX13_next 89 = .ok (.getfield 23, 3) := dk_180 0 23 (dk_at dksX13_next_3 20 rfl rfl)
theorem dX13_next_92 : decode cX13_next 92 = .ok (.iconst 1, 1) := dk_4 (dk_at dksX13_next_3 23 rfl rfl)
theorem dX13_next_93 : decode cX13_next 93 = .ok (.iadd, 1) := dk_96 (dk_at dksX13_next_4 0 rfl rfl)
theorem dX13_next_94 : decode cX13_next 94 = .ok (.putfield 23, 3) := dk_181 0 23 (dk_at dksX13_next_4 1 rfl rfl)
theorem dX13_next_97 : decode cX13_next 97 = .ok (.goto (-36), 3) := dk_167 255 220 (dk_at dksX13_next_4 4 rfl rfl)
theorem dX13_next_100 : decode cX13_next 100 = .ok (.aload_n 0, 1) := dk_42 (dk_at dksX13_next_4 7 rfl rfl)
theorem dX13_next_101 : decode cX13_next 101 = .ok (.aload_n 1, 1) := dk_43 (dk_at dksX13_next_4 8 rfl rfl)
theorem dX13_next_102 : decode cX13_next 102 = .ok (.invokevirtual 47, 3) := dk_182 0 47 (dk_at dksX13_next_4 9 rfl rfl)
theorem dX13_next_105 : decode cX13_next 105 = .ok (.putfield 33, 3) := dk_181 0 33 (dk_at dksX13_next_4 12 rfl rfl)
theorem dX13_next_108 : decode cX13_next 108 = .ok (.goto 116, 3) := dk_167 0 116 (dk_at dksX13_next_4 15 rfl rfl)
theorem dX13_next_111 : decode cX13_next 111 = .ok (.aload_n 0, 1) := dk_42 (dk_at dksX13_next_4 18 rfl rfl)
theorem dX13_next_112 : decode cX13_next 112 = .ok (.bipush 48, 2) := dk_16 48 (dk_at dksX13_next_4 19 rfl rfl)
theorem dX13_next_114 : decode cX13_next 114 = .ok (.bipush 57, 2) := dk_16 57 (dk_at dksX13_next_4 21 rfl rfl)
theorem dX13_next_116 : decode cX13_next 116 = .ok (.invokevirtual 26, 3) := dk_182 0 26 (dk_at dksX13_next_5 0 rfl rfl)
theorem dX13_next_119 : decode cX13_next 119 = .ok (.ifCond .eq 78, 3) := dk_153 0 78 (dk_at dksX13_next_5 3 rfl rfl)
theorem dX13_next_122 : decode cX13_next 122 = .ok (.iconst 0, 1) := dk_3 (dk_at dksX13_next_5 6 rfl rfl)
theorem dX13_next_123 : decode cX13_next 123 = .ok (.istore_n 1, 1) := dk_60 (dk_at dksX13_next_5 7 rfl rfl)
theorem dX13_next_124 : decode cX13_next 124 = .ok (.aload_n 0, 1) := dk_42 (dk_at dksX13_next_5 8 rfl rfl)
theorem dX13_next_125 : decode cX13_next 125 = .ok (.bipush 48, 2) := dk_16 48 (dk_at dksX13_next_5 9 rfl rfl)
theorem dX13_next_127 : decode cX13_next 127 = .ok (.bipush 57, 2) := dk_16 57 (dk_at dksX13_next_5 11 rfl rfl)
theorem dX13_next_129 : decode cX13_next 129 = .ok (.invokevirtual 26, 3) := dk_182 0 26 (dk_at dksX13_next_5 13 rfl rfl)
theorem dX13_next_132 : decode cX13_next 132 = .ok (.ifCond .eq 39, 3) := dk_153 0 39 (dk_at dksX13_next_5 16 rfl rfl)
theorem dX13_next_135 : decode cX13_next 135 = .ok (.bipush 100, 2) := dk_16 100 (dk_at dksX13_next_5 19 rfl rfl)
theorem dX13_next_137 : decode cX13_next 137 = .ok (.bipush 10, 2) := dk_16 10 (dk_at dksX13_next_5 21 rfl rfl)
theorem dX13_next_139 : decode cX13_next 139 = .ok (.iload_n 1, 1) := dk_27 (dk_at dksX13_next_5 23 rfl rfl)
theorem dX13_next_140 : decode cX13_next 140 = .ok (.imul, 1) := dk_104 (dk_at dksX13_next_6 0 rfl rfl)
theorem dX13_next_141 : decode cX13_next 141 = .ok (.aload_n 0, 1) := dk_42 (dk_at dksX13_next_6 1 rfl rfl)
theorem dX13_next_142 : decode cX13_next 142 = .ok (.getfield 9, 3) := dk_180 0 9 (dk_at dksX13_next_6 2 rfl rfl)
theorem dX13_next_145 : decode cX13_next 145 = .ok (.aload_n 0, 1) := dk_42 (dk_at dksX13_next_6 5 rfl rfl)
theorem dX13_next_146 : decode cX13_next 146 = .ok (.getfield 23, 3) := dk_180 0 23 (dk_at dksX13_next_6 6 rfl rfl)
theorem dX13_next_149 : decode cX13_next 149 = .ok (.iaload, 1) := dk_46 (dk_at dksX13_next_6 9 rfl rfl)
theorem dX13_next_150 : decode cX13_next 150 = .ok (.iadd, 1) := dk_96 (dk_at dksX13_next_6 10 rfl rfl)
theorem dX13_next_151 : decode cX13_next 151 = .ok (.bipush 48, 2) := dk_16 48 (dk_at dksX13_next_6 11 rfl rfl)
theorem dX13_next_153 : decode cX13_next 153 = .ok (.isub, 1) := dk_100 (dk_at dksX13_next_6 13 rfl rfl)
theorem dX13_next_154 : decode cX13_next 154 = .ok (.invokestatic 51, 3) := dk_184 0 51 (dk_at dksX13_next_6 14 rfl rfl)
theorem dX13_next_157 : decode cX13_next 157 = .ok (.istore_n 1, 1) := dk_60 (dk_at dksX13_next_6 17 rfl rfl)
theorem dX13_next_158 : decode cX13_next 158 = .ok (.aload_n 0, 1) := dk_42 (dk_at dksX13_next_6 18 rfl rfl)
theorem dX13_next_159 : decode cX13_next 159 = .ok (.dup, 1) := dk_89 (dk_at dksX13_next_6 19 rfl rfl)
theorem dX13_next_160 : decode cX13_next 160 = .ok (.getfield 23, 3) := dk_180 0 23 (dk_at dksX13_next_6 20 rfl rfl)
theorem dX13_next_163 : decode cX13_next 163 = .ok (.iconst 1, 1) := dk_4 (dk_at dksX13_next_6 23 rfl rfl)
theorem dX13_next_164 : decode cX13_next 164 = .ok (.iadd, 1) := dk_96 (dk_at dksX13_next_7 0 rfl rfl)
theorem dX13_next_165 : decode cX13_next 165 = .ok (.putfield 23, 3) := dk_181 0 23 (dk_at dksX13_next_7 1 rfl rfl)
theorem dX13_next_168 : decode cX13_next 168 = .ok (.goto (-44), 3) := dk_167 255 212 (dk_at dksX13_next_7 4 rfl rfl)
theorem dX13_next_171 : decode cX13_next 171 = .ok (.aload_n 0, 1) := dk_42 (dk_at dksX13_next_7 7 rfl rfl)
theorem dX13_next_172 : decode cX13_next 172 = .ok (.aload_n 0, 1) := dk_42 (dk_at dksX13_next_7 8 rfl rfl)
theorem dX13_next_173 : decode cX13_next 173 = .ok (.getfield 23, 3) := dk_180 0 23 (dk_at dksX13_next_7 9 rfl rfl)
theorem dX13_next_176 : decode cX13_next 176 = .ok (.aload_n 0, 1) := dk_42 (dk_at dksX13_next_7 12 rfl rfl)
theorem dX13_next_177 : decode cX13_next 177 = .ok (.getfield 30, 3) := dk_180 0 30 (dk_at dksX13_next_7 13 rfl rfl)
theorem dX13_next_180 : decode cX13_next 180 = .ok (.isub, 1) := dk_100 (dk_at dksX13_next_7 16 rfl rfl)
theorem dX13_next_181 : decode cX13_next 181 = .ok (.iconst 2, 1) := dk_5 (dk_at dksX13_next_7 17 rfl rfl)
theorem dX13_next_182 : decode cX13_next 182 = .ok (.if_icmp .le 8, 3) := dk_164 0 8 (dk_at dksX13_next_7 18 rfl rfl)
theorem dX13_next_185 : decode cX13_next 185 = .ok (.bipush 100, 2) := dk_16 100 (dk_at dksX13_next_7 21 rfl rfl)
theorem dX13_next_187 : decode cX13_next 187 = .ok (.goto 4, 3) := dk_167 0 4 (dk_at dksX13_next_8 0 rfl rfl)
theorem dX13_next_190 : decode cX13_next 190 = .ok (.iload_n 1, 1) := dk_27 (dk_at dksX13_next_8 3 rfl rfl)
theorem dX13_next_191 : decode cX13_next 191 = .ok (.putfield 37, 3) := dk_181 0 37 (dk_at dksX13_next_8 4 rfl rfl)
theorem dX13_next_194 : decode cX13_next 194 = .ok (.goto 30, 3) := dk_167 0 30 (dk_at dksX13_next_8 7 rfl rfl)
theorem dX13_next_197 : decode cX13_next 197 = .ok (.aload_n 0, 1) := dk_42 (dk_at dksX13_next_8 10 rfl rfl)
theorem dX13_next_198 : decode cX13_next 198 = .ok (.bipush 59, 2) := dk_16 59 (dk_at dksX13_next_8 11 rfl rfl)
theorem dX13_next_200 : decode cX13_next 200 = .ok (.bipush 59, 2) := dk_16 59 (dk_at dksX13_next_8 13 rfl rfl)
theorem dX13_next_202 : decode cX13_next 202 = .ok (.invokevirtual 26, 3) := dk_182 0 26 (dk_at dksX13_next_8 15 rfl rfl)
theorem dX13_next_205 : decode cX13_next 205 = .ok (.ifCond .eq 19, 3) := dk_153 0 19 (dk_at dksX13_next_8 18 rfl rfl)
theorem dX13_next_208 : decode cX13_next 208 = .ok (.aload_n 0, 1) := dk_42 (dk_at dksX13_next_8 21 rfl rfl)
theorem dX13_next_209 : decode cX13_next 209 = .ok (.ldc 57, 2) := dk_18 57 (dk_at dksX13_next_8 22 rfl rfl)
theorem dX13_next_211 : decode cX13_next 211 = .ok (.putfield 33, 3) := dk_181 0 33 (dk_at dksX13_next_9 0 rfl rfl)
theorem dX13_next_214 : decode cX13_next 214 = .ok (.aload_n 0, 1) := dk_42 (dk_at dksX13_next_9 3 rfl rfl)
theorem dX13_next_215 : decode cX13_next 215 = .ok (.dup, 1) := dk_89 (dk_at dksX13_next_9 4 rfl rfl)
theorem dX13_next_216 : decode cX13_next 216 = .ok (.getfield 23, 3) := dk_180 0 23 (dk_at dksX13_next_9 5 rfl rfl)
theorem dX13_next_219 : decode cX13_next 219 = .ok (.iconst 1, 1) := dk_4 (dk_at dksX13_next_9 8 rfl rfl)
theorem dX13_next_220 : decode cX13_next 220 = .ok (.iadd, 1) := dk_96 (dk_at dksX13_next_9 9 rfl rfl)
theorem dX13_next_221 : decode cX13_next 221 = .ok (.putfield 23, 3) := dk_181 0 23 (dk_at dksX13_next_9 10 rfl rfl)
theorem dX13_next_224 : decode cX13_next 224 = .ok (.return_, 1) := dk_177 (dk_at dksX13_next_9 13 rfl rfl)
abbrev cX13_isIn : ByteArray := prog_11_method_2_code
def yX13_isIn : MethodName := ⟨RX13, "isIn", "(II)Z"⟩
def dkwX13_isIn_1 : List UInt8 := [42, 180, 0, 9, 42, 180, 0, 23, 46, 28, 163, 0, 7, 4, 167, 0, 4, 3, 172]
abbrev dktX13_isIn_1 : List UInt8 := dkwX13_isIn_1 ++ []
def dkwX13_isIn_0 : List UInt8 := [42, 180, 0, 23, 42, 180, 0, 15, 162, 0, 33, 42, 180, 0, 9, 42, 180, 0, 23, 46, 27, 161, 0, 20]
abbrev dktX13_isIn_0 : List UInt8 := dkwX13_isIn_0 ++ dktX13_isIn_1
theorem dksX13_isIn_0 : cX13_isIn.data.toList.drop 0 = dktX13_isIn_0 := by decide +kernel
theorem dksX13_isIn_1 : cX13_isIn.data.toList.drop 24 = dktX13_isIn_1 := dk_seg dksX13_isIn_0 24 rfl rfl
theorem dX13_isIn_0 : decode cX13_isIn 0 = .ok (.aload_n 0, 1) := dk_42 (dk_at dksX13_isIn_0 0 rfl rfl)
theorem dX13_isIn_1 : decode cX13_isIn 1 = .ok (.getfield 23, 3) := dk_180 0 23 (dk_at dksX13_isIn_0 1 rfl rfl)
theorem dX13_isIn_4 : decode cX13_isIn 4 = .ok (.aload_n 0, 1) := dk_42 (dk_at dksX13_isIn_0 4 rfl rfl)
theorem dX13_isIn_5 : decode cX13_isIn 5 = .ok (.getfield 15, 3) := dk_180 0 15 (dk_at dksX13_isIn_0 5 rfl rfl)
theorem dX13_isIn_8 : decode cX13_isIn 8 = .ok (.if_icmp .ge 33, 3) := dk_162 0 33 (dk_at dksX13_isIn_0 8 rfl rfl)
theorem dX13_isIn_11 : decode cX13_isIn 11 = .ok (.aload_n 0, 1) := dk_42 (dk_at dksX13_isIn_0 11 rfl rfl)
theorem dX13_isIn_12 : decode cX13_isIn 12 = .ok (.getfield 9, 3) := dk_180 0 9 (dk_at dksX13_isIn_0 12 rfl rfl)
theorem dX13_isIn_15 : decode cX13_isIn 15 = .ok (.aload_n 0, 1) := dk_42 (dk_at dksX13_isIn_0 15 rfl rfl)
theorem dX13_isIn_16 : decode cX13_isIn 16 = .ok (.getfield 23, 3) := dk_180 0 23 (dk_at dksX13_isIn_0 16 rfl rfl)
theorem dX13_isIn_19 : decode cX13_isIn 19 = .ok (.iaload, 1) := dk_46 (dk_at dksX13_isIn_0 19 rfl rfl)
theorem dX13_isIn_20 : decode cX13_isIn 20 = .ok (.iload_n 1, 1) := dk_27 (dk_at dksX13_isIn_0 20 rfl rfl)
theorem dX13_isIn_21 : decode cX13_isIn 21 = .ok (.if_icmp .lt 20, 3) := dk_161 0 20 (dk_at dksX13_isIn_0 21 rfl rfl)
theorem dX13_isIn_24 : decode cX13_isIn 24 = .ok (.aload_n 0, 1) := dk_42 (dk_at dksX13_isIn_1 0 rfl rfl)
theorem dX13_isIn_25 : decode cX13_isIn 25 = .ok (.getfield 9, 3) := dk_180 0 9 (dk_at dksX13_isIn_1 1 rfl rfl)
theorem dX13_isIn_28 : decode cX13_isIn 28 = .ok (.aload_n 0, 1) := dk_42 (dk_at dksX13_isIn_1 4 rfl rfl)
theorem dX13_isIn_29 : decode cX13_isIn 29 = .ok (.getfield 23, 3) := dk_180 0 23 (dk_at dksX13_isIn_1 5 rfl rfl)
theorem dX13_isIn_32 : decode cX13_isIn 32 = .ok (.iaload, 1) := dk_46 (dk_at dksX13_isIn_1 8 rfl rfl)
theorem dX13_isIn_33 : decode cX13_isIn 33 = .ok (.iload_n 2, 1) := dk_28 (dk_at dksX13_isIn_1 9 rfl rfl)
theorem dX13_isIn_34 : decode cX13_isIn 34 = .ok (.if_icmp .gt 7, 3) := dk_163 0 7 (dk_at dksX13_isIn_1 10 rfl rfl)
theorem dX13_isIn_37 : decode cX13_isIn 37 = .ok (.iconst 1, 1) := dk_4 (dk_at dksX13_isIn_1 13 rfl rfl)
theorem dX13_isIn_38 : decode cX13_isIn 38 = .ok (.goto 4, 3) := dk_167 0 4 (dk_at dksX13_isIn_1 14 rfl rfl)
theorem dX13_isIn_41 : decode cX13_isIn 41 = .ok (.iconst 0, 1) := dk_3 (dk_at dksX13_isIn_1 17 rfl rfl)
theorem dX13_isIn_42 : decode cX13_isIn 42 = .ok (.ireturn, 1) := dk_172 (dk_at dksX13_isIn_1 18 rfl rfl)
abbrev cX13_item : ByteArray := prog_11_method_9_code
def yX13_item : MethodName := ⟨RX13, "item", "()V"⟩
def dkwX13_item_15 : List UInt8 := [191, 177]
abbrev dktX13_item_15 : List UInt8 := dkwX13_item_15 ++ []
def dkwX13_item_14 : List UInt8 := [182, 0, 115, 62, 42, 180, 0, 19, 180, 0, 121, 29, 42, 182, 0, 109, 79, 167, 0, 8, 42, 182, 0, 73]
abbrev dktX13_item_14 : List UInt8 := dkwX13_item_14 ++ dktX13_item_15
def dkwX13_item_13 : List UInt8 := [182, 0, 115, 62, 42, 180, 0, 19, 180, 0, 119, 29, 42, 3, 16, 12, 182, 0, 82, 79, 167, 0, 29, 42]
abbrev dktX13_item_13 : List UInt8 := dkwX13_item_13 ++ dktX13_item_14
def dkwX13_item_12 : List UInt8 := [62, 42, 180, 0, 19, 180, 0, 117, 29, 92, 46, 4, 42, 182, 0, 109, 120, 128, 79, 167, 0, 53, 42]
abbrev dktX13_item_12 : List UInt8 := dkwX13_item_12 ++ dktX13_item_13
def dkwX13_item_11 : List UInt8 := [180, 0, 19, 29, 21, 4, 42, 3, 16, 99, 182, 0, 82, 182, 0, 111, 87, 167, 0, 79, 42, 182, 0, 115]
abbrev dktX13_item_11 : List UInt8 := dkwX13_item_11 ++ dktX13_item_12
def dkwX13_item_10 : List UInt8 := [182, 0, 73, 191, 42, 182, 0, 70, 42, 3, 8, 182, 0, 82, 62, 42, 182, 0, 109, 54, 4, 42]
abbrev dktX13_item_10 : List UInt8 := dkwX13_item_10 ++ dktX13_item_11
def dkwX13_item_9 : List UInt8 := [16, 11, 182, 0, 82, 2, 79, 167, 0, 134, 42, 180, 0, 19, 180, 0, 77, 16, 8, 160, 0, 8, 42]
abbrev dktX13_item_9 : List UInt8 := dkwX13_item_9 ++ dktX13_item_10
def dkwX13_item_8 : List UInt8 := [182, 0, 109, 79, 167, 0, 160, 42, 182, 0, 70, 42, 180, 0, 19, 180, 0, 100, 180, 0, 104, 42, 3]
abbrev dktX13_item_8 : List UInt8 := dkwX13_item_8 ++ dktX13_item_9
def dkwX13_item_7 : List UInt8 := [42, 182, 0, 70, 42, 3, 16, 11, 182, 0, 82, 62, 42, 180, 0, 19, 180, 0, 100, 180, 0, 104, 29, 42]
abbrev dktX13_item_7 : List UInt8 := dkwX13_item_7 ++ dktX13_item_8
def dkwX13_item_6 : List UInt8 := [170, 0, 0, 0, 0, 221, 0, 0, 0, 0, 0, 0, 0, 5, 0, 0, 0, 38, 0, 0, 0, 69, 0, 0, 0, 95, 0, 0, 0, 150, 0, 0, 0, 176, 0, 0, 0, 200]
abbrev dktX13_item_6 : List UInt8 := dkwX13_item_6 ++ dktX13_item_7
def dkwX13_item_5 : List UInt8 := [18, 98, 182, 0, 64, 153, 0, 5, 8, 61, 28]
abbrev dktX13_item_5 : List UInt8 := dkwX13_item_5 ++ dktX13_item_6
def dkwX13_item_4 : List UInt8 := [153, 0, 33, 6, 61, 167, 0, 28, 43, 18, 96, 182, 0, 64, 153, 0, 19, 7, 61, 167, 0, 14, 43]
abbrev dktX13_item_4 : List UInt8 := dkwX13_item_4 ++ dktX13_item_5
def dkwX13_item_3 : List UInt8 := [61, 167, 0, 56, 43, 18, 92, 182, 0, 64, 153, 0, 47, 5, 61, 167, 0, 42, 43, 18, 94, 182, 0, 64]
abbrev dktX13_item_3 : List UInt8 := dkwX13_item_3 ++ dktX13_item_4
def dkwX13_item_2 : List UInt8 := [43, 18, 88, 182, 0, 64, 153, 0, 75, 3, 61, 167, 0, 70, 43, 18, 90, 182, 0, 64, 153, 0, 61, 4]
abbrev dktX13_item_2 : List UInt8 := dkwX13_item_2 ++ dktX13_item_3
def dkwX13_item_1 : List UInt8 := [171, 0, 0, 0, 138, 0, 0, 0, 6, 190, 155, 167, 140, 0, 0, 0, 85, 5, 165, 182, 77, 0, 0, 0, 71, 5, 167, 49, 239, 0, 0, 0, 113, 6, 35, 67, 188, 0, 0, 0, 99, 6, 92, 217, 7, 0, 0, 0, 57, 6, 133, 109, 107, 0, 0, 0, 127]
abbrev dktX13_item_1 : List UInt8 := dkwX13_item_1 ++ dktX13_item_2
def dkwX13_item_0 : List UInt8 := [42, 180, 0, 33, 199, 0, 8, 42, 182, 0, 73, 191, 42, 180, 0, 33, 76, 2, 61, 43, 182, 0, 84]
abbrev dktX13_item_0 : List UInt8 := dkwX13_item_0 ++ dktX13_item_1
theorem dksX13_item_0 : cX13_item.data.toList.drop 0 = dktX13_item_0 := by decide +kernel
theorem dksX13_item_1 : cX13_item.data.toList.drop 23 = dktX13_item_1 := dk_seg dksX13_item_0 23 rfl rfl
theorem dksX13_item_2 : cX13_item.data.toList.drop 80 = dktX13_item_2 := dk_seg dksX13_item_1 57 rfl rfl
theorem dksX13_item_3 : cX13_item.data.toList.drop 104 = dktX13_item_3 := dk_seg dksX13_item_2 24 rfl rfl
theorem dksX13_item_4 : cX13_item.data.toList.drop 128 = dktX13_item_4 := dk_seg dksX13_item_3 24 rfl rfl
theorem dksX13_item_5 : cX13_item.data.toList.drop 151 = dktX13_item_5 := dk_seg dksX13_item_4 23 rfl rfl
theorem dksX13_item_6 : cX13_item.data.toList.drop 162 = dktX13_item_6 := dk_seg dksX13_item_5 11 rfl rfl
theorem dksX13_item_7 : cX13_item.data.toList.drop 200 = dktX13_item_7 := dk_seg dksX13_item_6 38 rfl rfl
theorem dksX13_item_8 : cX13_item.data.toList.drop 224 = dktX13_item_8 := dk_seg dksX13_item_7 24 rfl rfl
theorem dksX13_item_9 : cX13_item.data.toList.drop 247 = dktX13_item_9 := dk_seg dksX13_item_8 23 rfl rfl
theorem dksX13_item_10 : cX13_item.data.toList.drop 270 = dktX13_item_10 := dk_seg dksX13_item_9 23 rfl rfl
theorem dksX13_item_11 : cX13_item.data.toList.drop 292 = dktX13_item_11 := dk_seg dksX13_item_10 22 rfl rfl
theorem dksX13_item_12 : cX13_item.data.toList.drop 316 = dktX13_item_12 := dk_seg dksX13_item_11 24 rfl rfl
theorem dksX13_item_13 : cX13_item.data.toList.drop 339 = dktX13_item_13 := dk_seg dksX13_item_12 23 rfl rfl
theorem dksX13_item_14 : cX13_item.data.toList.drop 363 = dktX13_item_14 := dk_seg dksX13_item_13 24 rfl rfl
theorem dksX13_item_15 : cX13_item.data.toList.drop 387 = dktX13_item_15 := dk_seg dksX13_item_14 24 rfl rfl
theorem dX13_item_0 : decode cX13_item 0 = .ok (.aload_n 0, 1) := dk_42 (dk_at dksX13_item_0 0 rfl rfl)
theorem dX13_item_1 : decode cX13_item 1 = .ok (.getfield 33, 3) := dk_180 0 33 (dk_at dksX13_item_0 1 rfl rfl)
theorem dX13_item_4 : decode cX13_item 4 = .ok (.ifnonnull 8, 3) := dk_199 0 8 (dk_at dksX13_item_0 4 rfl rfl)
theorem dX13_item_7 : decode cX13_item 7 = .ok (.aload_n 0, 1) := dk_42 (dk_at dksX13_item_0 7 rfl rfl)
theorem dX13_item_8 : decode cX13_item 8 = .ok (.invokevirtual 73, 3) := dk_182 0 73 (dk_at dksX13_item_0 8 rfl rfl)
theorem dX13_item_11 : decode cX13_item 11 = .ok (.athrow, 1) := dk_191 (dk_at dksX13_item_0 11 rfl rfl)
theorem dX13_item_12 : decode cX13_item 12 = .ok (.aload_n 0, 1) := dk_42 (dk_at dksX13_item_0 12 rfl rfl)
theorem dX13_item_13 : decode cX13_item 13 = .ok (.getfield 33, 3) := dk_180 0 33 (dk_at dksX13_item_0 13 rfl rfl)
theorem dX13_item_16 : decode cX13_item 16 = .ok (.astore_n 1, 1) := dk_76 (dk_at dksX13_item_0 16 rfl rfl)
theorem dX13_item_17 : decode cX13_item 17 = .ok (.iconst (-1), 1) := dk_2 (dk_at dksX13_item_0 17 rfl rfl)
theorem dX13_item_18 : decode cX13_item 18 = .ok (.istore_n 2, 1) := dk_61 (dk_at dksX13_item_0 18 rfl rfl)
theorem dX13_item_19 : decode cX13_item 19 = .ok (.aload_n 1, 1) := dk_43 (dk_at dksX13_item_0 19 rfl rfl)
theorem dX13_item_20 : decode cX13_item 20 = .ok (.invokevirtual 84, 3) := dk_182 0 84 (dk_at dksX13_item_0 20 rfl rfl)
theorem dX13_item_23 : decode cX13_item 23 = .ok (.lookupswitch 138 #[(-1097095284, 85), (94746189, 71), (94843375, 113), (102974396, 99), (106748167, 57), (109407595, 127)], 57) := by decide +kernel
theorem dX13_item_80 : decode cX13_item 80 = .ok (.aload_n 1, 1) := dk_43 (dk_at dksX13_item_2 0 rfl rfl)
theorem dX13_item_81 : decode cX13_item 81 = .ok (.ldc 88, 2) := dk_18 88 (dk_at dksX13_item_2 1 rfl rfl)
theorem dX13_item_83 : decode cX13_item 83 = .ok (.invokevirtual 64, 3) := dk_182 0 64 (dk_at dksX13_item_2 3 rfl rfl)
theorem dX13_item_86 : decode cX13_item 86 = .ok (.ifCond .eq 75, 3) := dk_153 0 75 (dk_at dksX13_item_2 6 rfl rfl)
theorem dX13_item_89 : decode cX13_item 89 = .ok (.iconst 0, 1) := dk_3 (dk_at dksX13_item_2 9 rfl rfl)
theorem dX13_item_90 : decode cX13_item 90 = .ok (.istore_n 2, 1) := dk_61 (dk_at dksX13_item_2 10 rfl rfl)
theorem dX13_item_91 : decode cX13_item 91 = .ok (.goto 70, 3) := dk_167 0 70 (dk_at dksX13_item_2 11 rfl rfl)
theorem dX13_item_94 : decode cX13_item 94 = .ok (.aload_n 1, 1) := dk_43 (dk_at dksX13_item_2 14 rfl rfl)
theorem dX13_item_95 : decode cX13_item 95 = .ok (.ldc 90, 2) := dk_18 90 (dk_at dksX13_item_2 15 rfl rfl)
theorem dX13_item_97 : decode cX13_item 97 = .ok (.invokevirtual 64, 3) := dk_182 0 64 (dk_at dksX13_item_2 17 rfl rfl)
theorem dX13_item_100 : decode cX13_item 100 = .ok (.ifCond .eq 61, 3) := dk_153 0 61 (dk_at dksX13_item_2 20 rfl rfl)
theorem dX13_item_103 : decode cX13_item 103 = .ok (.iconst 1, 1) := dk_4 (dk_at dksX13_item_2 23 rfl rfl)
theorem dX13_item_104 : decode cX13_item 104 = .ok (.istore_n 2, 1) := dk_61 (dk_at dksX13_item_3 0 rfl rfl)
theorem dX13_item_105 : decode cX13_item 105 = .ok (.goto 56, 3) := dk_167 0 56 (dk_at dksX13_item_3 1 rfl rfl)
theorem dX13_item_108 : decode cX13_item 108 = .ok (.aload_n 1, 1) := dk_43 (dk_at dksX13_item_3 4 rfl rfl)
theorem dX13_item_109 : decode cX13_item 109 = .ok (.ldc 92, 2) := dk_18 92 (dk_at dksX13_item_3 5 rfl rfl)
theorem dX13_item_111 : decode cX13_item 111 = .ok (.invokevirtual 64, 3) := dk_182 0 64 (dk_at dksX13_item_3 7 rfl rfl)
theorem dX13_item_114 : decode cX13_item 114 = .ok (.ifCond .eq 47, 3) := dk_153 0 47 (dk_at dksX13_item_3 10 rfl rfl)
theorem dX13_item_117 : decode cX13_item 117 = .ok (.iconst 2, 1) := dk_5 (dk_at dksX13_item_3 13 rfl rfl)
theorem dX13_item_118 : decode cX13_item 118 = .ok (.istore_n 2, 1) := dk_61 (dk_at dksX13_item_3 14 rfl rfl)
theorem dX13_item_119 : decode cX13_item 119 = .ok (.goto 42, 3) := dk_167 0 42 (dk_at dksX13_item_3 15 rfl rfl)
theorem dX13_item_122 : decode cX13_item 122 = .ok (.aload_n 1, 1) := dk_43 (dk_at dksX13_item_3 18 rfl rfl)
theorem dX13_item_123 : decode cX13_item 123 = .ok (.ldc 94, 2) := dk_18 94 (dk_at dksX13_item_3 19 rfl rfl)
theorem dX13_item_125 : decode cX13_item 125 = .ok (.invokevirtual 64, 3) := dk_182 0 64 (dk_at dksX13_item_3 21 rfl rfl)
theorem dX13_item_128 : decode cX13_item 128 = .ok (.ifCond .eq 33, 3) := dk_153 0 33 (dk_at dksX13_item_4 0 rfl rfl)
theorem dX13_item_131 : decode cX13_item 131 = .ok (.iconst 3, 1) := dk_6 (dk_at dksX13_item_4 3 rfl rfl)
theorem dX13_item_132 : decode cX13_item 132 = .ok (.istore_n 2, 1) := dk_61 (dk_at dksX13_item_4 4 rfl rfl)
theorem dX13_item_133 : decode cX13_item 133 = .ok (.goto 28, 3) := dk_167 0 28 (dk_at dksX13_item_4 5 rfl rfl)
theorem dX13_item_136 : decode cX13_item 136 = .ok (.aload_n 1, 1) := dk_43 (dk_at dksX13_item_4 8 rfl rfl)
theorem dX13_item_137 : decode cX13_item 137 = .ok (.ldc 96, 2) := dk_18 96 (dk_at dksX13_item_4 9 rfl rfl)
theorem dX13_item_139 : decode cX13_item 139 = .ok (.invokevirtual 64, 3) := dk_182 0 64 (dk_at dksX13_item_4 11 rfl rfl)
theorem dX13_item_142 : decode cX13_item 142 = .ok (.ifCond .eq 19, 3) := dk_153 0 19 (dk_at dksX13_item_4 14 rfl rfl)
theorem dX13_item_145 : decode cX13_item 145 = .ok (.iconst 4, 1) := dk_7 (dk_at dksX13_item_4 17 rfl rfl)
theorem dX13_item_146 : decode cX13_item 146 = .ok (.istore_n 2, 1) := dk_61 (dk_at dksX13_item_4 18 rfl rfl)
theorem dX13_item_147 : decode cX13_item 147 = .ok (.goto 14, 3) := dk_167 0 14 (dk_at dksX13_item_4 19 rfl rfl)
theorem dX13_item_150 : decode cX13_item 150 = .ok (.aload_n 1, 1) := dk_43 (dk_at dksX13_item_4 22 rfl rfl)
theorem dX13_item_151 : decode cX13_item 151 = .ok (.ldc 98, 2) := dk_18 98 (dk_at dksX13_item_5 0 rfl rfl)
theorem dX13_item_153 : decode cX13_item 153 = .ok (.invokevirtual 64, 3) := dk_182 0 64 (dk_at dksX13_item_5 2 rfl rfl)
theorem dX13_item_156 : decode cX13_item 156 = .ok (.ifCond .eq 5, 3) := dk_153 0 5 (dk_at dksX13_item_5 5 rfl rfl)
theorem dX13_item_159 : decode cX13_item 159 = .ok (.iconst 5, 1) := dk_8 (dk_at dksX13_item_5 8 rfl rfl)
theorem dX13_item_160 : decode cX13_item 160 = .ok (.istore_n 2, 1) := dk_61 (dk_at dksX13_item_5 9 rfl rfl)
theorem dX13_item_161 : decode cX13_item 161 = .ok (.iload_n 2, 1) := dk_28 (dk_at dksX13_item_5 10 rfl rfl)
theorem dX13_item_162 : decode cX13_item 162 = .ok (.tableswitch 221 0 5 #[38, 69, 95, 150, 176, 200], 38) := by decide +kernel
theorem dX13_item_200 : decode cX13_item 200 = .ok (.aload_n 0, 1) := dk_42 (dk_at dksX13_item_7 0 rfl rfl)
theorem dX13_item_201 : decode cX13_item 201 = .ok (.invokevirtual 70, 3) := dk_182 0 70 (dk_at dksX13_item_7 1 rfl rfl)
theorem dX13_item_204 : decode cX13_item 204 = .ok (.aload_n 0, 1) := dk_42 (dk_at dksX13_item_7 4 rfl rfl)
theorem dX13_item_205 : decode cX13_item 205 = .ok (.iconst 0, 1) := dk_3 (dk_at dksX13_item_7 5 rfl rfl)
theorem dX13_item_206 : decode cX13_item 206 = .ok (.bipush 11, 2) := dk_16 11 (dk_at dksX13_item_7 6 rfl rfl)
theorem dX13_item_208 : decode cX13_item 208 = .ok (.invokevirtual 82, 3) := dk_182 0 82 (dk_at dksX13_item_7 8 rfl rfl)
theorem dX13_item_211 : decode cX13_item 211 = .ok (.istore_n 3, 1) := dk_62 (dk_at dksX13_item_7 11 rfl rfl)
theorem dX13_item_212 : decode cX13_item 212 = .ok (.aload_n 0, 1) := dk_42 (dk_at dksX13_item_7 12 rfl rfl)
theorem dX13_item_213 : decode cX13_item 213 = .ok (.getfield 19, 3) := dk_180 0 19 (dk_at dksX13_item_7 13 rfl rfl)
theorem dX13_item_216 : decode cX13_item 216 = .ok (.getfield 100, 3) := dk_180 0 100 (dk_at dksX13_item_7 16 rfl rfl)
theorem dX13_item_219 : decode cX13_item 219 = .ok (.getfield 104, 3) := dk_180 0 104 (dk_at dksX13_item_7 19 rfl rfl)
theorem dX13_item_222 : decode cX13_item 222 = .ok (.iload_n 3, 1) := dk_29 (dk_at dksX13_item_7 22 rfl rfl)
theorem dX13_item_223 : decode cX13_item 223 = .ok (.aload_n 0, 1) := dk_42 (dk_at dksX13_item_7 23 rfl rfl)
theorem dX13_item_224 : decode cX13_item 224 = .ok (.invokevirtual 109, 3) := dk_182 0 109 (dk_at dksX13_item_8 0 rfl rfl)
theorem dX13_item_227 : decode cX13_item 227 = .ok (.iastore, 1) := dk_79 (dk_at dksX13_item_8 3 rfl rfl)
theorem dX13_item_228 : decode cX13_item 228 = .ok (.goto 160, 3) := dk_167 0 160 (dk_at dksX13_item_8 4 rfl rfl)
theorem dX13_item_231 : decode cX13_item 231 = .ok (.aload_n 0, 1) := dk_42 (dk_at dksX13_item_8 7 rfl rfl)
theorem dX13_item_232 : decode cX13_item 232 = .ok (.invokevirtual 70, 3) := dk_182 0 70 (dk_at dksX13_item_8 8 rfl rfl)
theorem dX13_item_235 : decode cX13_item 235 = .ok (.aload_n 0, 1) := dk_42 (dk_at dksX13_item_8 11 rfl rfl)
theorem dX13_item_236 : decode cX13_item 236 = .ok (.getfield 19, 3) := dk_180 0 19 (dk_at dksX13_item_8 12 rfl rfl)
theorem dX13_item_239 : decode cX13_item 239 = .ok (.getfield 100, 3) := dk_180 0 100 (dk_at dksX13_item_8 15 rfl rfl)
theorem dX13_item_242 : decode cX13_item 242 = .ok (.getfield 104, 3) := dk_180 0 104 (dk_at dksX13_item_8 18 rfl rfl)
theorem dX13_item_245 : decode cX13_item 245 = .ok (.aload_n 0, 1) := dk_42 (dk_at dksX13_item_8 21 rfl rfl)
theorem dX13_item_246 : decode cX13_item 246 = .ok (.iconst 0, 1) := dk_3 (dk_at dksX13_item_8 22 rfl rfl)
theorem dX13_item_247 : decode cX13_item 247 = .ok (.bipush 11, 2) := dk_16 11 (dk_at dksX13_item_9 0 rfl rfl)
theorem dX13_item_249 : decode cX13_item 249 = .ok (.invokevirtual 82, 3) := dk_182 0 82 (dk_at dksX13_item_9 2 rfl rfl)
theorem dX13_item_252 : decode cX13_item 252 = .ok (.iconst (-1), 1) := dk_2 (dk_at dksX13_item_9 5 rfl rfl)
theorem dX13_item_253 : decode cX13_item 253 = .ok (.iastore, 1) := dk_79 (dk_at dksX13_item_9 6 rfl rfl)
theorem dX13_item_254 : decode cX13_item 254 = .ok (.goto 134, 3) := dk_167 0 134 (dk_at dksX13_item_9 7 rfl rfl)
theorem dX13_item_257 : decode cX13_item 257 = .ok (.aload_n 0, 1) := dk_42 (dk_at dksX13_item_9 10 rfl rfl)
theorem dX13_item_258 : decode cX13_item 258 = .ok (.getfield 19, 3) := dk_180 0 19 (dk_at dksX13_item_9 11 rfl rfl)
theorem dX13_item_261 : decode cX13_item 261 = .ok (.getfield 77, 3) := dk_180 0 77 (dk_at dksX13_item_9 14 rfl rfl)
theorem dX13_item_264 : decode cX13_item 264 = .ok (.bipush 8, 2) := dk_16 8 (dk_at dksX13_item_9 17 rfl rfl)
theorem dX13_item_266 : decode cX13_item 266 = .ok (.if_icmp .ne 8, 3) := dk_160 0 8 (dk_at dksX13_item_9 19 rfl rfl)
theorem dX13_item_269 : decode cX13_item 269 = .ok (.aload_n 0, 1) := dk_42 (dk_at dksX13_item_9 22 rfl rfl)
theorem dX13_item_270 : decode cX13_item 270 = .ok (.invokevirtual 73, 3) := dk_182 0 73 (dk_at dksX13_item_10 0 rfl rfl)
theorem dX13_item_273 : decode cX13_item 273 = .ok (.athrow, 1) := dk_191 (dk_at dksX13_item_10 3 rfl rfl)
theorem dX13_item_274 : decode cX13_item 274 = .ok (.aload_n 0, 1) := dk_42 (dk_at dksX13_item_10 4 rfl rfl)
theorem dX13_item_275 : decode cX13_item 275 = .ok (.invokevirtual 70, 3) := dk_182 0 70 (dk_at dksX13_item_10 5 rfl rfl)
theorem dX13_item_278 : decode cX13_item 278 = .ok (.aload_n 0, 1) := dk_42 (dk_at dksX13_item_10 8 rfl rfl)
theorem dX13_item_279 : decode cX13_item 279 = .ok (.iconst 0, 1) := dk_3 (dk_at dksX13_item_10 9 rfl rfl)
theorem dX13_item_280 : decode cX13_item 280 = .ok (.iconst 5, 1) := dk_8 (dk_at dksX13_item_10 10 rfl rfl)
theorem dX13_item_281 : decode cX13_item 281 = .ok (.invokevirtual 82, 3) := dk_182 0 82 (dk_at dksX13_item_10 11 rfl rfl)
theorem dX13_item_284 : decode cX13_item 284 = .ok (.istore_n 3, 1) := dk_62 (dk_at dksX13_item_10 14 rfl rfl)
theorem dX13_item_285 : decode cX13_item 285 = .ok (.aload_n 0, 1) := dk_42 (dk_at dksX13_item_10 15 rfl rfl)
theorem dX13_item_286 : decode cX13_item 286 = .ok (.invokevirtual 109, 3) := dk_182 0 109 (dk_at dksX13_item_10 16 rfl rfl)
theorem dX13_item_289 : decode cX13_item 289 = .ok (.istore 4, 2) := dk_54 4 (dk_at dksX13_item_10 19 rfl rfl)
theorem dX13_item_291 : decode cX13_item 291 = .ok (.aload_n 0, 1) := dk_42 (dk_at dksX13_item_10 21 rfl rfl)
theorem dX13_item_292 : decode cX13_item 292 = .ok (.getfield 19, 3) := dk_180 0 19 (dk_at dksX13_item_11 0 rfl rfl)
theorem dX13_item_295 : decode cX13_item 295 = .ok (.iload_n 3, 1) := dk_29 (dk_at dksX13_item_11 3 rfl rfl)
theorem dX13_item_296 : decode cX13_item 296 = .ok (.iload 4, 2) := dk_21 4 (dk_at dksX13_item_11 4 rfl rfl)
theorem dX13_item_298 : decode cX13_item 298 = .ok (.aload_n 0, 1) := dk_42 (dk_at dksX13_item_11 6 rfl rfl)
theorem dX13_item_299 : decode cX13_item 299 = .ok (.iconst 0, 1) := dk_3 (dk_at dksX13_item_11 7 rfl rfl)
theorem dX13_item_300 : decode cX13_item 300 = .ok (.bipush 99, 2) := dk_16 99 (dk_at dksX13_item_11 8 rfl rfl)
theorem dX13_item_302 : decode cX13_item 302 = .ok (.invokevirtual 82, 3) := dk_182 0 82 (dk_at dksX13_item_11 10 rfl rfl)
theorem dX13_item_305 : decode cX13_item 305 = .ok (.invokevirtual 111, 3) := dk_182 0 111 (dk_at dksX13_item_11 13 rfl rfl)
theorem dX13_item_308 : decode cX13_item 308 = .ok (.pop, 1) := dk_87 (dk_at dksX13_item_11 16 rfl rfl)
theorem dX13_item_309 : decode cX13_item 309 = .ok (.goto 79, 3) := dk_167 0 79 (dk_at dksX13_item_11 17 rfl rfl)
theorem dX13_item_312 : decode cX13_item 312 = .ok (.aload_n 0, 1) := dk_42 (dk_at dksX13_item_11 20 rfl rfl)
theorem dX13_item_313 : decode cX13_item 313 = .ok (.invokevirtual 115, 3) := dk_182 0 115 (dk_at dksX13_item_11 21 rfl rfl)
theorem dX13_item_316 : decode cX13_item 316 = .ok (.istore_n 3, 1) := dk_62 (dk_at dksX13_item_12 0 rfl rfl)
theorem dX13_item_317 : decode cX13_item 317 = .ok (.aload_n 0, 1) := dk_42 (dk_at dksX13_item_12 1 rfl rfl)
theorem dX13_item_318 : decode cX13_item 318 = .ok (.getfield 19, 3) := dk_180 0 19 (dk_at dksX13_item_12 2 rfl rfl)
theorem dX13_item_321 : decode cX13_item 321 = .ok (.getfield 117, 3) := dk_180 0 117 (dk_at dksX13_item_12 5 rfl rfl)
theorem dX13_item_324 : decode cX13_item 324 = .ok (.iload_n 3, 1) := dk_29 (dk_at dksX13_item_12 8 rfl rfl)
theorem dX13_item_325 : decode cX13_item 325 = .ok (.dup2, 1) := dk_92 (dk_at dksX13_item_12 9 rfl rfl)
theorem dX13_item_326 : decode cX13_item 326 = .ok (.iaload, 1) := dk_46 (dk_at dksX13_item_12 10 rfl rfl)
theorem dX13_item_327 : decode cX13_item 327 = .ok (.iconst 1, 1) := dk_4 (dk_at dksX13_item_12 11 rfl rfl)
theorem dX13_item_328 : decode cX13_item 328 = .ok (.aload_n 0, 1) := dk_42 (dk_at dksX13_item_12 12 rfl rfl)
theorem dX13_item_329 : decode cX13_item 329 = .ok (.invokevirtual 109, 3) := dk_182 0 109 (dk_at dksX13_item_12 13 rfl rfl)
theorem dX13_item_332 : decode cX13_item 332 = .ok (.ishl, 1) := dk_120 (dk_at dksX13_item_12 16 rfl rfl)
theorem dX13_item_333 : decode cX13_item 333 = .ok (.ior, 1) := dk_128 (dk_at dksX13_item_12 17 rfl rfl)
theorem dX13_item_334 : decode cX13_item 334 = .ok (.iastore, 1) := dk_79 (dk_at dksX13_item_12 18 rfl rfl)
theorem dX13_item_335 : decode cX13_item 335 = .ok (.goto 53, 3) := dk_167 0 53 (dk_at dksX13_item_12 19 rfl rfl)
theorem dX13_item_338 : decode cX13_item 338 = .ok (.aload_n 0, 1) := dk_42 (dk_at dksX13_item_12 22 rfl rfl)
theorem dX13_item_339 : decode cX13_item 339 = .ok (.invokevirtual 115, 3) := dk_182 0 115 (dk_at dksX13_item_13 0 rfl rfl)
theorem dX13_item_342 : decode cX13_item 342 = .ok (.istore_n 3, 1) := dk_62 (dk_at dksX13_item_13 3 rfl rfl)
theorem dX13_item_343 : decode cX13_item 343 = .ok (.aload_n 0, 1) := dk_42 (dk_at dksX13_item_13 4 rfl rfl)
theorem dX13_item_344 : decode cX13_item 344 = .ok (.getfield 19, 3) := dk_180 0 19 (dk_at dksX13_item_13 5 rfl rfl)
theorem dX13_item_347 : decode cX13_item 347 = .ok (.getfield 119, 3) := dk_180 0 119 (dk_at dksX13_item_13 8 rfl rfl)
theorem dX13_item_350 : decode cX13_item 350 = .ok (.iload_n 3, 1) := dk_29 (dk_at dksX13_item_13 11 rfl rfl)
theorem dX13_item_351 : decode cX13_item 351 = .ok (.aload_n 0, 1) := dk_42 (dk_at dksX13_item_13 12 rfl rfl)
theorem dX13_item_352 : decode cX13_item 352 = .ok (.iconst 0, 1) := dk_3 (dk_at dksX13_item_13 13 rfl rfl)
theorem dX13_item_353 : decode cX13_item 353 = .ok (.bipush 12, 2) := dk_16 12 (dk_at dksX13_item_13 14 rfl rfl)
theorem dX13_item_355 : decode cX13_item 355 = .ok (.invokevirtual 82, 3) := dk_182 0 82 (dk_at dksX13_item_13 16 rfl rfl)
theorem dX13_item_358 : decode cX13_item 358 = .ok (.iastore, 1) := dk_79 (dk_at dksX13_item_13 19 rfl rfl)
theorem dX13_item_359 : decode cX13_item 359 = .ok (.goto 29, 3) := dk_167 0 29 (dk_at dksX13_item_13 20 rfl rfl)
theorem dX13_item_362 : decode cX13_item 362 = .ok (.aload_n 0, 1) := dk_42 (dk_at dksX13_item_13 23 rfl rfl)
theorem dX13_item_363 : decode cX13_item 363 = .ok (.invokevirtual 115, 3) := dk_182 0 115 (dk_at dksX13_item_14 0 rfl rfl)
theorem dX13_item_366 : decode cX13_item 366 = .ok (.istore_n 3, 1) := dk_62 (dk_at dksX13_item_14 3 rfl rfl)
theorem dX13_item_367 : decode cX13_item 367 = .ok (.aload_n 0, 1) := dk_42 (dk_at dksX13_item_14 4 rfl rfl)
theorem dX13_item_368 : decode cX13_item 368 = .ok (.getfield 19, 3) := dk_180 0 19 (dk_at dksX13_item_14 5 rfl rfl)
theorem dX13_item_371 : decode cX13_item 371 = .ok (.getfield 121, 3) := dk_180 0 121 (dk_at dksX13_item_14 8 rfl rfl)
theorem dX13_item_374 : decode cX13_item 374 = .ok (.iload_n 3, 1) := dk_29 (dk_at dksX13_item_14 11 rfl rfl)
theorem dX13_item_375 : decode cX13_item 375 = .ok (.aload_n 0, 1) := dk_42 (dk_at dksX13_item_14 12 rfl rfl)
theorem dX13_item_376 : decode cX13_item 376 = .ok (.invokevirtual 109, 3) := dk_182 0 109 (dk_at dksX13_item_14 13 rfl rfl)
theorem dX13_item_379 : decode cX13_item 379 = .ok (.iastore, 1) := dk_79 (dk_at dksX13_item_14 16 rfl rfl)
theorem dX13_item_380 : decode cX13_item 380 = .ok (.goto 8, 3) := dk_167 0 8 (dk_at dksX13_item_14 17 rfl rfl)
theorem dX13_item_383 : decode cX13_item 383 = .ok (.aload_n 0, 1) := dk_42 (dk_at dksX13_item_14 20 rfl rfl)
theorem dX13_item_384 : decode cX13_item 384 = .ok (.invokevirtual 73, 3) := dk_182 0 73 (dk_at dksX13_item_14 21 rfl rfl)
theorem dX13_item_387 : decode cX13_item 387 = .ok (.athrow, 1) := dk_191 (dk_at dksX13_item_15 0 rfl rfl)
theorem dX13_item_388 : decode cX13_item 388 = .ok (.return_, 1) := dk_177 (dk_at dksX13_item_15 1 rfl rfl)
abbrev cX13_wrong : ByteArray := prog_11_method_4_code
def yX13_wrong : MethodName := ⟨RX13, "wrong", "()LSeenInOrderOfAge$Fault;"⟩
def dkwX13_wrong_0 : List UInt8 := [187, 0, 59, 89, 42, 180, 0, 30, 183, 0, 61, 176]
abbrev dktX13_wrong_0 : List UInt8 := dkwX13_wrong_0 ++ []
theorem dksX13_wrong_0 : cX13_wrong.data.toList.drop 0 = dktX13_wrong_0 := by decide +kernel
theorem dX13_wrong_0 : decode cX13_wrong 0 = .ok (.new 59, 3) := dk_187 0 59 (dk_at dksX13_wrong_0 0 rfl rfl)
theorem dX13_wrong_3 : decode cX13_wrong 3 = .ok (.dup, 1) := dk_89 (dk_at dksX13_wrong_0 3 rfl rfl)
theorem dX13_wrong_4 : decode cX13_wrong 4 = .ok (.aload_n 0, 1) := dk_42 (dk_at dksX13_wrong_0 4 rfl rfl)
theorem dX13_wrong_5 : decode cX13_wrong 5 = .ok (.getfield 30, 3) := dk_180 0 30 (dk_at dksX13_wrong_0 5 rfl rfl)
theorem dX13_wrong_8 : decode cX13_wrong 8 = .ok (.invokespecial 61, 3) := dk_183 0 61 (dk_at dksX13_wrong_0 8 rfl rfl)
theorem dX13_wrong_11 : decode cX13_wrong 11 = .ok (.areturn, 1) := dk_176 (dk_at dksX13_wrong_0 11 rfl rfl)
abbrev cX13_number : ByteArray := prog_11_method_6_code
def yX13_number : MethodName := ⟨RX13, "number", "(II)I"⟩
def dkwX13_number_1 : List UInt8 := [180, 0, 37, 62, 42, 182, 0, 70, 29, 172]
abbrev dktX13_number_1 : List UInt8 := dkwX13_number_1 ++ []
def dkwX13_number_0 : List UInt8 := [42, 180, 0, 37, 27, 161, 0, 11, 42, 180, 0, 37, 28, 164, 0, 8, 42, 182, 0, 73, 191, 42]
abbrev dktX13_number_0 : List UInt8 := dkwX13_number_0 ++ dktX13_number_1
theorem dksX13_number_0 : cX13_number.data.toList.drop 0 = dktX13_number_0 := by decide +kernel
theorem dksX13_number_1 : cX13_number.data.toList.drop 22 = dktX13_number_1 := dk_seg dksX13_number_0 22 rfl rfl
theorem dX13_number_0 : decode cX13_number 0 = .ok (.aload_n 0, 1) := dk_42 (dk_at dksX13_number_0 0 rfl rfl)
theorem dX13_number_1 : decode cX13_number 1 = .ok (.getfield 37, 3) := dk_180 0 37 (dk_at dksX13_number_0 1 rfl rfl)
theorem dX13_number_4 : decode cX13_number 4 = .ok (.iload_n 1, 1) := dk_27 (dk_at dksX13_number_0 4 rfl rfl)
theorem dX13_number_5 : decode cX13_number 5 = .ok (.if_icmp .lt 11, 3) := dk_161 0 11 (dk_at dksX13_number_0 5 rfl rfl)
theorem dX13_number_8 : decode cX13_number 8 = .ok (.aload_n 0, 1) := dk_42 (dk_at dksX13_number_0 8 rfl rfl)
theorem dX13_number_9 : decode cX13_number 9 = .ok (.getfield 37, 3) := dk_180 0 37 (dk_at dksX13_number_0 9 rfl rfl)
theorem dX13_number_12 : decode cX13_number 12 = .ok (.iload_n 2, 1) := dk_28 (dk_at dksX13_number_0 12 rfl rfl)
theorem dX13_number_13 : decode cX13_number 13 = .ok (.if_icmp .le 8, 3) := dk_164 0 8 (dk_at dksX13_number_0 13 rfl rfl)
theorem dX13_number_16 : decode cX13_number 16 = .ok (.aload_n 0, 1) := dk_42 (dk_at dksX13_number_0 16 rfl rfl)
theorem dX13_number_17 : decode cX13_number 17 = .ok (.invokevirtual 73, 3) := dk_182 0 73 (dk_at dksX13_number_0 17 rfl rfl)
theorem dX13_number_20 : decode cX13_number 20 = .ok (.athrow, 1) := dk_191 (dk_at dksX13_number_0 20 rfl rfl)
theorem dX13_number_21 : decode cX13_number 21 = .ok (.aload_n 0, 1) := dk_42 (dk_at dksX13_number_0 21 rfl rfl)
theorem dX13_number_22 : decode cX13_number 22 = .ok (.getfield 37, 3) := dk_180 0 37 (dk_at dksX13_number_1 0 rfl rfl)
theorem dX13_number_25 : decode cX13_number 25 = .ok (.istore_n 3, 1) := dk_62 (dk_at dksX13_number_1 3 rfl rfl)
theorem dX13_number_26 : decode cX13_number 26 = .ok (.aload_n 0, 1) := dk_42 (dk_at dksX13_number_1 4 rfl rfl)
theorem dX13_number_27 : decode cX13_number 27 = .ok (.invokevirtual 70, 3) := dk_182 0 70 (dk_at dksX13_number_1 5 rfl rfl)
theorem dX13_number_30 : decode cX13_number 30 = .ok (.iload_n 3, 1) := dk_29 (dk_at dksX13_number_1 8 rfl rfl)
theorem dX13_number_31 : decode cX13_number 31 = .ok (.ireturn, 1) := dk_172 (dk_at dksX13_number_1 9 rfl rfl)
abbrev cX13_sort : ByteArray := prog_11_method_8_code
def yX13_sort : MethodName := ⟨RX13, "sort", "()I"⟩
def dkwX13_sort_0 : List UInt8 := [42, 3, 16, 7, 182, 0, 82, 172]
abbrev dktX13_sort_0 : List UInt8 := dkwX13_sort_0 ++ []
theorem dksX13_sort_0 : cX13_sort.data.toList.drop 0 = dktX13_sort_0 := by decide +kernel
theorem dX13_sort_0 : decode cX13_sort 0 = .ok (.aload_n 0, 1) := dk_42 (dk_at dksX13_sort_0 0 rfl rfl)
theorem dX13_sort_1 : decode cX13_sort 1 = .ok (.iconst 0, 1) := dk_3 (dk_at dksX13_sort_0 1 rfl rfl)
theorem dX13_sort_2 : decode cX13_sort 2 = .ok (.bipush 7, 2) := dk_16 7 (dk_at dksX13_sort_0 2 rfl rfl)
theorem dX13_sort_4 : decode cX13_sort 4 = .ok (.invokevirtual 82, 3) := dk_182 0 82 (dk_at dksX13_sort_0 4 rfl rfl)
theorem dX13_sort_7 : decode cX13_sort 7 = .ok (.ireturn, 1) := dk_172 (dk_at dksX13_sort_0 7 rfl rfl)
abbrev cX13_looker : ByteArray := prog_11_method_7_code
def yX13_looker : MethodName := ⟨RX13, "looker", "()I"⟩
def dkwX13_looker_0 : List UInt8 := [42, 182, 0, 70, 42, 3, 42, 180, 0, 19, 180, 0, 77, 4, 100, 182, 0, 82, 172]
abbrev dktX13_looker_0 : List UInt8 := dkwX13_looker_0 ++ []
theorem dksX13_looker_0 : cX13_looker.data.toList.drop 0 = dktX13_looker_0 := by decide +kernel
theorem dX13_looker_0 : decode cX13_looker 0 = .ok (.aload_n 0, 1) := dk_42 (dk_at dksX13_looker_0 0 rfl rfl)
theorem dX13_looker_1 : decode cX13_looker 1 = .ok (.invokevirtual 70, 3) := dk_182 0 70 (dk_at dksX13_looker_0 1 rfl rfl)
theorem dX13_looker_4 : decode cX13_looker 4 = .ok (.aload_n 0, 1) := dk_42 (dk_at dksX13_looker_0 4 rfl rfl)
theorem dX13_looker_5 : decode cX13_looker 5 = .ok (.iconst 0, 1) := dk_3 (dk_at dksX13_looker_0 5 rfl rfl)
theorem dX13_looker_6 : decode cX13_looker 6 = .ok (.aload_n 0, 1) := dk_42 (dk_at dksX13_looker_0 6 rfl rfl)
theorem dX13_looker_7 : decode cX13_looker 7 = .ok (.getfield 19, 3) := dk_180 0 19 (dk_at dksX13_looker_0 7 rfl rfl)
theorem dX13_looker_10 : decode cX13_looker 10 = .ok (.getfield 77, 3) := dk_180 0 77 (dk_at dksX13_looker_0 10 rfl rfl)
theorem dX13_looker_13 : decode cX13_looker 13 = .ok (.iconst 1, 1) := dk_4 (dk_at dksX13_looker_0 13 rfl rfl)
theorem dX13_looker_14 : decode cX13_looker 14 = .ok (.isub, 1) := dk_100 (dk_at dksX13_looker_0 14 rfl rfl)
theorem dX13_looker_15 : decode cX13_looker 15 = .ok (.invokevirtual 82, 3) := dk_182 0 82 (dk_at dksX13_looker_0 15 rfl rfl)
theorem dX13_looker_18 : decode cX13_looker 18 = .ok (.ireturn, 1) := dk_172 (dk_at dksX13_looker_0 18 rfl rfl)
abbrev cX13_takes : ByteArray := prog_11_method_5_code
def yX13_takes : MethodName := ⟨RX13, "takes", "(Ljava/lang/String;)Z"⟩
def dkwX13_takes_1 : List UInt8 := [4, 172]
abbrev dktX13_takes_1 : List UInt8 := dkwX13_takes_1 ++ []
def dkwX13_takes_0 : List UInt8 := [42, 180, 0, 33, 198, 0, 14, 42, 180, 0, 33, 43, 182, 0, 64, 154, 0, 5, 3, 172, 42, 182, 0, 70]
abbrev dktX13_takes_0 : List UInt8 := dkwX13_takes_0 ++ dktX13_takes_1
theorem dksX13_takes_0 : cX13_takes.data.toList.drop 0 = dktX13_takes_0 := by decide +kernel
theorem dksX13_takes_1 : cX13_takes.data.toList.drop 24 = dktX13_takes_1 := dk_seg dksX13_takes_0 24 rfl rfl
theorem dX13_takes_0 : decode cX13_takes 0 = .ok (.aload_n 0, 1) := dk_42 (dk_at dksX13_takes_0 0 rfl rfl)
theorem dX13_takes_1 : decode cX13_takes 1 = .ok (.getfield 33, 3) := dk_180 0 33 (dk_at dksX13_takes_0 1 rfl rfl)
theorem dX13_takes_4 : decode cX13_takes 4 = .ok (.ifnull 14, 3) := dk_198 0 14 (dk_at dksX13_takes_0 4 rfl rfl)
theorem dX13_takes_7 : decode cX13_takes 7 = .ok (.aload_n 0, 1) := dk_42 (dk_at dksX13_takes_0 7 rfl rfl)
theorem dX13_takes_8 : decode cX13_takes 8 = .ok (.getfield 33, 3) := dk_180 0 33 (dk_at dksX13_takes_0 8 rfl rfl)
theorem dX13_takes_11 : decode cX13_takes 11 = .ok (.aload_n 1, 1) := dk_43 (dk_at dksX13_takes_0 11 rfl rfl)
theorem dX13_takes_12 : decode cX13_takes 12 = .ok (.invokevirtual 64, 3) := dk_182 0 64 (dk_at dksX13_takes_0 12 rfl rfl)
theorem dX13_takes_15 : decode cX13_takes 15 = .ok (.ifCond .ne 5, 3) := dk_154 0 5 (dk_at dksX13_takes_0 15 rfl rfl)
theorem dX13_takes_18 : decode cX13_takes 18 = .ok (.iconst 0, 1) := dk_3 (dk_at dksX13_takes_0 18 rfl rfl)
theorem dX13_takes_19 : decode cX13_takes 19 = .ok (.ireturn, 1) := dk_172 (dk_at dksX13_takes_0 19 rfl rfl)
theorem dX13_takes_20 : decode cX13_takes 20 = .ok (.aload_n 0, 1) := dk_42 (dk_at dksX13_takes_0 20 rfl rfl)
theorem dX13_takes_21 : decode cX13_takes 21 = .ok (.invokevirtual 70, 3) := dk_182 0 70 (dk_at dksX13_takes_0 21 rfl rfl)
theorem dX13_takes_24 : decode cX13_takes 24 = .ok (.iconst 1, 1) := dk_4 (dk_at dksX13_takes_1 0 rfl rfl)
theorem dX13_takes_25 : decode cX13_takes 25 = .ok (.ireturn, 1) := dk_172 (dk_at dksX13_takes_1 1 rfl rfl)
theorem q117 : (Jvm.Cond.initialized "SeenInOrderOfAge$Reader") ∈ lw_all := lw_g (lw_at lw_m1 35 rfl) rfl
theorem q145 : (Jvm.Cond.fieldLink "SeenInOrderOfAge$Reader" (104 : Nat) "SeenInOrderOfAge$Panes" "sort" "[I") ∈ lw_all := lw_g (lw_at lw_m1 63 rfl) rfl
theorem q159 : (Jvm.Cond.fieldLink "SeenInOrderOfAge$Reader" (100 : Nat) "SeenInOrderOfAge$Window" "panes" "LSeenInOrderOfAge$Panes;") ∈ lw_all := lw_g (lw_at lw_m1 77 rfl) rfl
theorem q167 : (Jvm.Cond.fieldLink "SeenInOrderOfAge$Reader" (117 : Nat) "SeenInOrderOfAge$Window" "likes" "[I") ∈ lw_all := lw_g (lw_at lw_m1 85 rfl) rfl
theorem q170 : (Jvm.Cond.fieldLink "SeenInOrderOfAge$Reader" (119 : Nat) "SeenInOrderOfAge$Window" "comes" "[I") ∈ lw_all := lw_g (lw_at lw_m1 88 rfl) rfl
theorem q173 : (Jvm.Cond.fieldLink "SeenInOrderOfAge$Reader" (121 : Nat) "SeenInOrderOfAge$Window" "shine" "[I") ∈ lw_all := lw_g (lw_at lw_m1 91 rfl) rfl
theorem q178 : (Jvm.Cond.fieldLink "SeenInOrderOfAge$Reader" (77 : Nat) "SeenInOrderOfAge$Window" "lookers" "I") ∈ lw_all := lw_g (lw_at lw_m1 96 rfl) rfl
theorem q993 : (Jvm.Cond.instantiable "SeenInOrderOfAge$Reader" (7 : Nat)) ∈ lw_all := lw_g (lw_at lw_m4 191 rfl) rfl
theorem q1007 : (Jvm.Cond.instanceMethod ({ cls := "SeenInOrderOfAge$Reader", name := "<init>", desc := "([IILSeenInOrderOfAge$Window;)V" } : Jvm.MethodName)) ∈ lw_all := lw_g (lw_at lw_m4 205 rfl) rfl
theorem q1008 : (Jvm.Cond.code ({ cls := "SeenInOrderOfAge$Reader", name := "<init>", desc := "([IILSeenInOrderOfAge$Window;)V" } : Jvm.MethodName) prog_11_method_1_code (4 : Nat) (Option.none : Option Jvm.ClassFile.FieldType)) ∈ lw_all := lw_g (lw_at lw_m4 206 rfl) rfl
theorem q1009 : (Jvm.Cond.methodLink "SeenInOrderOfAge$Reader" (3 : Nat) ({ cls := "java/lang/Object", name := "<init>", desc := "()V" } : Jvm.MethodName)) ∈ lw_all := lw_g (lw_at lw_m4 207 rfl) rfl
theorem q1010 : (Jvm.Cond.fieldLink "SeenInOrderOfAge$Reader" (9 : Nat) "SeenInOrderOfAge$Reader" "tape" "[I") ∈ lw_all := lw_g (lw_at lw_m4 208 rfl) rfl
theorem q1011 : (Jvm.Cond.fieldLink "SeenInOrderOfAge$Reader" (15 : Nat) "SeenInOrderOfAge$Reader" "size" "I") ∈ lw_all := lw_g (lw_at lw_m4 209 rfl) rfl
theorem q1012 : (Jvm.Cond.fieldLink "SeenInOrderOfAge$Reader" (19 : Nat) "SeenInOrderOfAge$Reader" "window" "LSeenInOrderOfAge$Window;") ∈ lw_all := lw_g (lw_at lw_m4 210 rfl) rfl
theorem q1014 : (Jvm.Cond.fieldLink "SeenInOrderOfAge$Reader" (23 : Nat) "SeenInOrderOfAge$Reader" "at" "I") ∈ lw_all := lw_g (lw_at lw_m4 212 rfl) rfl
theorem q1015 : (Jvm.Cond.fieldLink "SeenInOrderOfAge$Reader" (30 : Nat) "SeenInOrderOfAge$Reader" "from" "I") ∈ lw_all := lw_g (lw_at lw_m4 213 rfl) rfl
theorem q1016 : (Jvm.Cond.fieldLink "SeenInOrderOfAge$Reader" (33 : Nat) "SeenInOrderOfAge$Reader" "word" "Ljava/lang/String;") ∈ lw_all := lw_g (lw_at lw_m4 214 rfl) rfl
theorem q1017 : (Jvm.Cond.fieldLink "SeenInOrderOfAge$Reader" (37 : Nat) "SeenInOrderOfAge$Reader" "number" "I") ∈ lw_all := lw_g (lw_at lw_m4 215 rfl) rfl
theorem q1018 : (Jvm.Cond.laysFinal "SeenInOrderOfAge$Reader" "SeenInOrderOfAge$Reader" "tape" "[I") ∈ lw_all := lw_g (lw_at lw_m4 216 rfl) rfl
theorem q1019 : (Jvm.Cond.soleField "SeenInOrderOfAge$Reader" "tape") ∈ lw_all := lw_g (lw_at lw_m4 217 rfl) rfl
theorem q1020 : (Jvm.Cond.laysFinal "SeenInOrderOfAge$Reader" "SeenInOrderOfAge$Reader" "size" "I") ∈ lw_all := lw_g (lw_at lw_m4 218 rfl) rfl
theorem q1021 : (Jvm.Cond.soleField "SeenInOrderOfAge$Reader" "size") ∈ lw_all := lw_g (lw_at lw_m4 219 rfl) rfl
theorem q1022 : (Jvm.Cond.laysFinal "SeenInOrderOfAge$Reader" "SeenInOrderOfAge$Reader" "window" "LSeenInOrderOfAge$Window;") ∈ lw_all := lw_g (lw_at lw_m4 220 rfl) rfl
theorem q1023 : (Jvm.Cond.soleField "SeenInOrderOfAge$Reader" "window") ∈ lw_all := lw_g (lw_at lw_m4 221 rfl) rfl
theorem q1024 : (Jvm.Cond.lays "SeenInOrderOfAge$Reader" "SeenInOrderOfAge$Reader" "at" "I") ∈ lw_all := lw_g (lw_at lw_m4 222 rfl) rfl
theorem q1025 : (Jvm.Cond.soleField "SeenInOrderOfAge$Reader" "at") ∈ lw_all := lw_g (lw_at lw_m4 223 rfl) rfl
theorem q1026 : (Jvm.Cond.lays "SeenInOrderOfAge$Reader" "SeenInOrderOfAge$Reader" "from" "I") ∈ lw_all := lw_g (lw_at lw_m4 224 rfl) rfl
theorem q1027 : (Jvm.Cond.soleField "SeenInOrderOfAge$Reader" "from") ∈ lw_all := lw_g (lw_at lw_m4 225 rfl) rfl
theorem q1028 : (Jvm.Cond.lays "SeenInOrderOfAge$Reader" "SeenInOrderOfAge$Reader" "word" "Ljava/lang/String;") ∈ lw_all := lw_g (lw_at lw_m4 226 rfl) rfl
theorem q1029 : (Jvm.Cond.soleField "SeenInOrderOfAge$Reader" "word") ∈ lw_all := lw_g (lw_at lw_m4 227 rfl) rfl
theorem q1030 : (Jvm.Cond.lays "SeenInOrderOfAge$Reader" "SeenInOrderOfAge$Reader" "number" "I") ∈ lw_all := lw_g (lw_at lw_m4 228 rfl) rfl
theorem q1031 : (Jvm.Cond.soleField "SeenInOrderOfAge$Reader" "number") ∈ lw_all := lw_g (lw_at lw_m4 229 rfl) rfl
theorem q1032 : (Jvm.Cond.superclass "SeenInOrderOfAge$Reader" "java/lang/Object") ∈ lw_all := lw_g (lw_at lw_m4 230 rfl) rfl
theorem q1034 : (Jvm.Cond.instanceMethod ({ cls := "SeenInOrderOfAge$Reader", name := "read", desc := "()I" } : Jvm.MethodName)) ∈ lw_all := lw_g (lw_at lw_m4 232 rfl) rfl
theorem q1035 : (Jvm.Cond.selects "SeenInOrderOfAge$Reader" ({ cls := "SeenInOrderOfAge$Reader", name := "read", desc := "()I" } : Jvm.MethodName) ({ cls := "SeenInOrderOfAge$Reader", name := "read", desc := "()I" } : Jvm.MethodName)) ∈ lw_all := lw_g (lw_at lw_m4 233 rfl) rfl
theorem q1036 : (Jvm.Cond.code ({ cls := "SeenInOrderOfAge$Reader", name := "read", desc := "()I" } : Jvm.MethodName) prog_11_method_10_code (2 : Nat) (Option.some Jvm.ClassFile.FieldType.int)) ∈ lw_all := lw_g (lw_at lw_m4 234 rfl) rfl
theorem q1037 : (Jvm.Cond.methodLink "SeenInOrderOfAge$Reader" (70 : Nat) ({ cls := "SeenInOrderOfAge$Reader", name := "next", desc := "()V" } : Jvm.MethodName)) ∈ lw_all := lw_g (lw_at lw_m4 235 rfl) rfl
theorem q1038 : (Jvm.Cond.privateMethod ({ cls := "SeenInOrderOfAge$Reader", name := "next", desc := "()V" } : Jvm.MethodName)) ∈ lw_tbl := lw_at lw_m4 236 rfl
theorem q1039 : (Jvm.Cond.instanceMethod ({ cls := "SeenInOrderOfAge$Reader", name := "next", desc := "()V" } : Jvm.MethodName)) ∈ lw_all := lw_g (lw_at lw_m4 237 rfl) rfl
theorem q1040 : (Jvm.Cond.code ({ cls := "SeenInOrderOfAge$Reader", name := "next", desc := "()V" } : Jvm.MethodName) prog_11_method_3_code (2 : Nat) (Option.none : Option Jvm.ClassFile.FieldType)) ∈ lw_all := lw_g (lw_at lw_m4 238 rfl) rfl
theorem q1041 : (Jvm.Cond.methodLink "SeenInOrderOfAge$Reader" (26 : Nat) ({ cls := "SeenInOrderOfAge$Reader", name := "isIn", desc := "(II)Z" } : Jvm.MethodName)) ∈ lw_all := lw_g (lw_at lw_m4 239 rfl) rfl
theorem q1042 : (Jvm.Cond.privateMethod ({ cls := "SeenInOrderOfAge$Reader", name := "isIn", desc := "(II)Z" } : Jvm.MethodName)) ∈ lw_tbl := lw_at lw_m5 0 rfl
theorem q1043 : (Jvm.Cond.instanceMethod ({ cls := "SeenInOrderOfAge$Reader", name := "isIn", desc := "(II)Z" } : Jvm.MethodName)) ∈ lw_all := lw_g (lw_at lw_m5 1 rfl) rfl
theorem q1044 : (Jvm.Cond.code ({ cls := "SeenInOrderOfAge$Reader", name := "isIn", desc := "(II)Z" } : Jvm.MethodName) prog_11_method_2_code (3 : Nat) (Option.some Jvm.ClassFile.FieldType.boolean)) ∈ lw_all := lw_g (lw_at lw_m5 2 rfl) rfl
theorem q1045 : (Jvm.Cond.classLink "SeenInOrderOfAge$Reader" (40 : Nat) "java/lang/StringBuilder") ∈ lw_all := lw_g (lw_at lw_m5 3 rfl) rfl
theorem q1046 : (Jvm.Cond.methodLink "SeenInOrderOfAge$Reader" (42 : Nat) ({ cls := "java/lang/StringBuilder", name := "<init>", desc := "()V" } : Jvm.MethodName)) ∈ lw_all := lw_g (lw_at lw_m5 4 rfl) rfl
theorem q1047 : (Jvm.Cond.methodLink "SeenInOrderOfAge$Reader" (43 : Nat) ({ cls := "java/lang/StringBuilder", name := "append", desc := "(C)Ljava/lang/StringBuilder;" } : Jvm.MethodName)) ∈ lw_all := lw_g (lw_at lw_m5 5 rfl) rfl
theorem q1069 : (Jvm.Cond.methodLink "SeenInOrderOfAge$Reader" (47 : Nat) ({ cls := "java/lang/StringBuilder", name := "toString", desc := "()Ljava/lang/String;" } : Jvm.MethodName)) ∈ lw_all := lw_g (lw_at lw_m5 27 rfl) rfl
theorem q1070 : (Jvm.Cond.methodLink "SeenInOrderOfAge$Reader" (51 : Nat) ({ cls := "java/lang/Math", name := "min", desc := "(II)I" } : Jvm.MethodName)) ∈ lw_all := lw_g (lw_at lw_m5 28 rfl) rfl
theorem q1071 : (Jvm.Cond.stringRef "SeenInOrderOfAge$Reader" (57 : Nat) ";") ∈ lw_tbl := lw_at lw_m5 29 rfl
theorem q1072 : (Jvm.Cond.methodLink "SeenInOrderOfAge$Reader" (123 : Nat) ({ cls := "SeenInOrderOfAge$Reader", name := "item", desc := "()V" } : Jvm.MethodName)) ∈ lw_all := lw_g (lw_at lw_m5 30 rfl) rfl
theorem q1073 : (Jvm.Cond.privateMethod ({ cls := "SeenInOrderOfAge$Reader", name := "item", desc := "()V" } : Jvm.MethodName)) ∈ lw_tbl := lw_at lw_m5 31 rfl
theorem q1074 : (Jvm.Cond.instanceMethod ({ cls := "SeenInOrderOfAge$Reader", name := "item", desc := "()V" } : Jvm.MethodName)) ∈ lw_all := lw_g (lw_at lw_m5 32 rfl) rfl
theorem q1075 : (Jvm.Cond.code ({ cls := "SeenInOrderOfAge$Reader", name := "item", desc := "()V" } : Jvm.MethodName) prog_11_method_9_code (5 : Nat) (Option.none : Option Jvm.ClassFile.FieldType)) ∈ lw_all := lw_g (lw_at lw_m5 33 rfl) rfl
theorem q1076 : (Jvm.Cond.methodLink "SeenInOrderOfAge$Reader" (73 : Nat) ({ cls := "SeenInOrderOfAge$Reader", name := "wrong", desc := "()LSeenInOrderOfAge$Fault;" } : Jvm.MethodName)) ∈ lw_all := lw_g (lw_at lw_m5 34 rfl) rfl
theorem q1077 : (Jvm.Cond.privateMethod ({ cls := "SeenInOrderOfAge$Reader", name := "wrong", desc := "()LSeenInOrderOfAge$Fault;" } : Jvm.MethodName)) ∈ lw_tbl := lw_at lw_m5 35 rfl
theorem q1078 : (Jvm.Cond.instanceMethod ({ cls := "SeenInOrderOfAge$Reader", name := "wrong", desc := "()LSeenInOrderOfAge$Fault;" } : Jvm.MethodName)) ∈ lw_all := lw_g (lw_at lw_m5 36 rfl) rfl
theorem q1079 : (Jvm.Cond.code ({ cls := "SeenInOrderOfAge$Reader", name := "wrong", desc := "()LSeenInOrderOfAge$Fault;" } : Jvm.MethodName) prog_11_method_4_code (1 : Nat) (Option.some (Jvm.ClassFile.FieldType.object "SeenInOrderOfAge$Fault"))) ∈ lw_all := lw_g (lw_at lw_m5 37 rfl) rfl
theorem q1080 : (Jvm.Cond.classLink "SeenInOrderOfAge$Reader" (59 : Nat) "SeenInOrderOfAge$Fault") ∈ lw_all := lw_g (lw_at lw_m5 38 rfl) rfl
theorem q1089 : (Jvm.Cond.methodLink "SeenInOrderOfAge$Reader" (61 : Nat) ({ cls := "SeenInOrderOfAge$Fault", name := "<init>", desc := "(I)V" } : Jvm.MethodName)) ∈ lw_all := lw_g (lw_at lw_m5 47 rfl) rfl
theorem q1099 : (Jvm.Cond.methodLink "SeenInOrderOfAge$Reader" (84 : Nat) ({ cls := "java/lang/String", name := "hashCode", desc := "()I" } : Jvm.MethodName)) ∈ lw_all := lw_g (lw_at lw_m5 57 rfl) rfl
theorem q1152 : (Jvm.Cond.stringRef "SeenInOrderOfAge$Reader" (88 : Nat) "place") ∈ lw_tbl := lw_at lw_m5 110 rfl
theorem q1153 : (Jvm.Cond.methodLink "SeenInOrderOfAge$Reader" (64 : Nat) ({ cls := "java/lang/String", name := "equals", desc := "(Ljava/lang/Object;)Z" } : Jvm.MethodName)) ∈ lw_all := lw_g (lw_at lw_m5 111 rfl) rfl
theorem q1161 : (Jvm.Cond.stringRef "SeenInOrderOfAge$Reader" (90 : Nat) "clear") ∈ lw_tbl := lw_at lw_m5 119 rfl
theorem q1162 : (Jvm.Cond.stringRef "SeenInOrderOfAge$Reader" (92 : Nat) "looker") ∈ lw_tbl := lw_at lw_m5 120 rfl
theorem q1163 : (Jvm.Cond.stringRef "SeenInOrderOfAge$Reader" (94 : Nat) "likes") ∈ lw_tbl := lw_at lw_m5 121 rfl
theorem q1164 : (Jvm.Cond.stringRef "SeenInOrderOfAge$Reader" (96 : Nat) "comes") ∈ lw_tbl := lw_at lw_m5 122 rfl
theorem q1165 : (Jvm.Cond.stringRef "SeenInOrderOfAge$Reader" (98 : Nat) "shine") ∈ lw_tbl := lw_at lw_m5 123 rfl
theorem q1166 : (Jvm.Cond.methodLink "SeenInOrderOfAge$Reader" (82 : Nat) ({ cls := "SeenInOrderOfAge$Reader", name := "number", desc := "(II)I" } : Jvm.MethodName)) ∈ lw_all := lw_g (lw_at lw_m5 124 rfl) rfl
theorem q1167 : (Jvm.Cond.privateMethod ({ cls := "SeenInOrderOfAge$Reader", name := "number", desc := "(II)I" } : Jvm.MethodName)) ∈ lw_tbl := lw_at lw_m5 125 rfl
theorem q1168 : (Jvm.Cond.instanceMethod ({ cls := "SeenInOrderOfAge$Reader", name := "number", desc := "(II)I" } : Jvm.MethodName)) ∈ lw_all := lw_g (lw_at lw_m5 126 rfl) rfl
theorem q1169 : (Jvm.Cond.code ({ cls := "SeenInOrderOfAge$Reader", name := "number", desc := "(II)I" } : Jvm.MethodName) prog_11_method_6_code (4 : Nat) (Option.some Jvm.ClassFile.FieldType.int)) ∈ lw_all := lw_g (lw_at lw_m5 127 rfl) rfl
theorem q1170 : (Jvm.Cond.methodLink "SeenInOrderOfAge$Reader" (109 : Nat) ({ cls := "SeenInOrderOfAge$Reader", name := "sort", desc := "()I" } : Jvm.MethodName)) ∈ lw_all := lw_g (lw_at lw_m5 128 rfl) rfl
theorem q1171 : (Jvm.Cond.privateMethod ({ cls := "SeenInOrderOfAge$Reader", name := "sort", desc := "()I" } : Jvm.MethodName)) ∈ lw_tbl := lw_at lw_m5 129 rfl
theorem q1172 : (Jvm.Cond.instanceMethod ({ cls := "SeenInOrderOfAge$Reader", name := "sort", desc := "()I" } : Jvm.MethodName)) ∈ lw_all := lw_g (lw_at lw_m5 130 rfl) rfl
theorem q1173 : (Jvm.Cond.code ({ cls := "SeenInOrderOfAge$Reader", name := "sort", desc := "()I" } : Jvm.MethodName) prog_11_method_8_code (1 : Nat) (Option.some Jvm.ClassFile.FieldType.int)) ∈ lw_all := lw_g (lw_at lw_m5 131 rfl) rfl
theorem q1174 : (Jvm.Cond.methodLink "SeenInOrderOfAge$Reader" (111 : Nat) ({ cls := "SeenInOrderOfAge$Window", name := "adds", desc := "(III)I" } : Jvm.MethodName)) ∈ lw_all := lw_g (lw_at lw_m5 132 rfl) rfl
theorem q1175 : (Jvm.Cond.methodLink "SeenInOrderOfAge$Reader" (115 : Nat) ({ cls := "SeenInOrderOfAge$Reader", name := "looker", desc := "()I" } : Jvm.MethodName)) ∈ lw_all := lw_g (lw_at lw_m5 133 rfl) rfl
theorem q1176 : (Jvm.Cond.privateMethod ({ cls := "SeenInOrderOfAge$Reader", name := "looker", desc := "()I" } : Jvm.MethodName)) ∈ lw_tbl := lw_at lw_m5 134 rfl
theorem q1177 : (Jvm.Cond.instanceMethod ({ cls := "SeenInOrderOfAge$Reader", name := "looker", desc := "()I" } : Jvm.MethodName)) ∈ lw_all := lw_g (lw_at lw_m5 135 rfl) rfl
theorem q1178 : (Jvm.Cond.code ({ cls := "SeenInOrderOfAge$Reader", name := "looker", desc := "()I" } : Jvm.MethodName) prog_11_method_7_code (1 : Nat) (Option.some Jvm.ClassFile.FieldType.int)) ∈ lw_all := lw_g (lw_at lw_m5 136 rfl) rfl
theorem q1179 : (Jvm.Cond.methodLink "SeenInOrderOfAge$Reader" (126 : Nat) ({ cls := "SeenInOrderOfAge$Reader", name := "takes", desc := "(Ljava/lang/String;)Z" } : Jvm.MethodName)) ∈ lw_all := lw_g (lw_at lw_m5 137 rfl) rfl
theorem q1180 : (Jvm.Cond.privateMethod ({ cls := "SeenInOrderOfAge$Reader", name := "takes", desc := "(Ljava/lang/String;)Z" } : Jvm.MethodName)) ∈ lw_tbl := lw_at lw_m5 138 rfl
theorem q1181 : (Jvm.Cond.instanceMethod ({ cls := "SeenInOrderOfAge$Reader", name := "takes", desc := "(Ljava/lang/String;)Z" } : Jvm.MethodName)) ∈ lw_all := lw_g (lw_at lw_m5 139 rfl) rfl
theorem q1182 : (Jvm.Cond.code ({ cls := "SeenInOrderOfAge$Reader", name := "takes", desc := "(Ljava/lang/String;)Z" } : Jvm.MethodName) prog_11_method_5_code (2 : Nat) (Option.some Jvm.ClassFile.FieldType.boolean)) ∈ lw_all := lw_g (lw_at lw_m5 140 rfl) rfl

/-! X14 -/
abbrev cX14_init : ByteArray := prog_4_method_1_code
def yX14_init : MethodName := ⟨RX14, "<init>", "(I)V"⟩
def dkwX14_init_0 : List UInt8 := [42, 1, 1, 3, 3, 183, 0, 1, 42, 27, 181, 0, 7, 177]
abbrev dktX14_init_0 : List UInt8 := dkwX14_init_0 ++ []
theorem dksX14_init_0 : cX14_init.data.toList.drop 0 = dktX14_init_0 := by decide +kernel
theorem dX14_init_0 : decode cX14_init 0 = .ok (.aload_n 0, 1) := dk_42 (dk_at dksX14_init_0 0 rfl rfl)
theorem dX14_init_1 : decode cX14_init 1 = .ok (.aconst_null, 1) := dk_1 (dk_at dksX14_init_0 1 rfl rfl)
theorem dX14_init_2 : decode cX14_init 2 = .ok (.aconst_null, 1) := dk_1 (dk_at dksX14_init_0 2 rfl rfl)
theorem dX14_init_3 : decode cX14_init 3 = .ok (.iconst 0, 1) := dk_3 (dk_at dksX14_init_0 3 rfl rfl)
theorem dX14_init_4 : decode cX14_init 4 = .ok (.iconst 0, 1) := dk_3 (dk_at dksX14_init_0 4 rfl rfl)
theorem dX14_init_5 : decode cX14_init 5 = .ok (.invokespecial 1, 3) := dk_183 0 1 (dk_at dksX14_init_0 5 rfl rfl)
theorem dX14_init_8 : decode cX14_init 8 = .ok (.aload_n 0, 1) := dk_42 (dk_at dksX14_init_0 8 rfl rfl)
theorem dX14_init_9 : decode cX14_init 9 = .ok (.iload_n 1, 1) := dk_27 (dk_at dksX14_init_0 9 rfl rfl)
theorem dX14_init_10 : decode cX14_init 10 = .ok (.putfield 7, 3) := dk_181 0 7 (dk_at dksX14_init_0 10 rfl rfl)
theorem dX14_init_13 : decode cX14_init 13 = .ok (.return_, 1) := dk_177 (dk_at dksX14_init_0 13 rfl rfl)
theorem q118 : (Jvm.Cond.initialized "SeenInOrderOfAge$Fault") ∈ lw_all := lw_g (lw_at lw_m1 36 rfl) rfl
theorem q308 : (Jvm.Cond.selects "SeenInOrderOfAge$Fault" ({ cls := "java/lang/Throwable", name := "fillInStackTrace", desc := "()Ljava/lang/Throwable;" } : Jvm.MethodName) ({ cls := "java/lang/Throwable", name := "fillInStackTrace", desc := "()Ljava/lang/Throwable;" } : Jvm.MethodName)) ∈ lw_all := lw_g (lw_at lw_m1 226 rfl) rfl
theorem q1081 : (Jvm.Cond.instantiable "SeenInOrderOfAge$Fault" (7 : Nat)) ∈ lw_all := lw_g (lw_at lw_m5 39 rfl) rfl
theorem q1082 : (Jvm.Cond.castable "SeenInOrderOfAge$Fault" "SeenInOrderOfAge$Fault") ∈ lw_tbl := lw_at lw_m5 40 rfl
theorem q1083 : (Jvm.Cond.selects "SeenInOrderOfAge$Fault" ({ cls := "java/lang/Throwable", name := "fillInStackTrace", desc := "(I)Ljava/lang/Throwable;" } : Jvm.MethodName) ({ cls := "java/lang/Throwable", name := "fillInStackTrace", desc := "(I)Ljava/lang/Throwable;" } : Jvm.MethodName)) ∈ lw_all := lw_g (lw_at lw_m5 41 rfl) rfl
theorem q1084 : (Jvm.Cond.lays "SeenInOrderOfAge$Fault" "java/lang/Throwable" "cause" "Ljava/lang/Throwable;") ∈ lw_all := lw_g (lw_at lw_m5 42 rfl) rfl
theorem q1085 : (Jvm.Cond.lays "SeenInOrderOfAge$Fault" "java/lang/Throwable" "stackTrace" "[Ljava/lang/StackTraceElement;") ∈ lw_all := lw_g (lw_at lw_m5 43 rfl) rfl
theorem q1086 : (Jvm.Cond.lays "SeenInOrderOfAge$Fault" "java/lang/Throwable" "suppressedExceptions" "Ljava/util/List;") ∈ lw_all := lw_g (lw_at lw_m5 44 rfl) rfl
theorem q1087 : (Jvm.Cond.lays "SeenInOrderOfAge$Fault" "java/lang/Throwable" "detailMessage" "Ljava/lang/String;") ∈ lw_all := lw_g (lw_at lw_m5 45 rfl) rfl
theorem q1088 : (Jvm.Cond.lays "SeenInOrderOfAge$Fault" "java/lang/Throwable" "backtrace" "Ljava/lang/Object;") ∈ lw_all := lw_g (lw_at lw_m5 46 rfl) rfl
theorem q1090 : (Jvm.Cond.instanceMethod ({ cls := "SeenInOrderOfAge$Fault", name := "<init>", desc := "(I)V" } : Jvm.MethodName)) ∈ lw_all := lw_g (lw_at lw_m5 48 rfl) rfl
theorem q1091 : (Jvm.Cond.code ({ cls := "SeenInOrderOfAge$Fault", name := "<init>", desc := "(I)V" } : Jvm.MethodName) prog_4_method_1_code (2 : Nat) (Option.none : Option Jvm.ClassFile.FieldType)) ∈ lw_all := lw_g (lw_at lw_m5 49 rfl) rfl
theorem q1092 : (Jvm.Cond.methodLink "SeenInOrderOfAge$Fault" (1 : Nat) ({ cls := "java/lang/Exception", name := "<init>", desc := "(Ljava/lang/String;Ljava/lang/Throwable;ZZ)V" } : Jvm.MethodName)) ∈ lw_all := lw_g (lw_at lw_m5 50 rfl) rfl
theorem q1093 : (Jvm.Cond.fieldLink "SeenInOrderOfAge$Fault" (7 : Nat) "SeenInOrderOfAge$Fault" "place" "I") ∈ lw_all := lw_g (lw_at lw_m5 51 rfl) rfl
theorem q1095 : (Jvm.Cond.laysFinal "SeenInOrderOfAge$Fault" "SeenInOrderOfAge$Fault" "place" "I") ∈ lw_all := lw_g (lw_at lw_m5 53 rfl) rfl
theorem q1096 : (Jvm.Cond.soleField "SeenInOrderOfAge$Fault" "place") ∈ lw_all := lw_g (lw_at lw_m5 54 rfl) rfl
theorem q1097 : (Jvm.Cond.lays "SeenInOrderOfAge$Fault" "java/lang/Throwable" "depth" "I") ∈ lw_all := lw_g (lw_at lw_m5 55 rfl) rfl
theorem q1098 : (Jvm.Cond.superclass "SeenInOrderOfAge$Fault" "java/lang/Exception") ∈ lw_all := lw_g (lw_at lw_m5 56 rfl) rfl

theorem q154 : (Jvm.Cond.arrayClass Jvm.ClassFile.FieldType.int) ∈ lw_all := lw_g (lw_at lw_m1 72 rfl) rfl
theorem q156 : (Jvm.Cond.arrayOver (Jvm.ClassFile.FieldType.object "SeenInOrderOfAge$Looker")) ∈ lw_tbl := lw_at lw_m1 74 rfl
theorem q236 : (Jvm.Cond.arrayOver (Jvm.ClassFile.FieldType.object "SeenInOrderOfAge$Sheet")) ∈ lw_tbl := lw_at lw_m1 154 rfl
theorem q370 : (Jvm.Cond.arrayClass Jvm.ClassFile.FieldType.byte) ∈ lw_all := lw_g (lw_at lw_m2 48 rfl) rfl
theorem q388 : (Jvm.Cond.arrayClass Jvm.ClassFile.FieldType.short) ∈ lw_all := lw_g (lw_at lw_m2 66 rfl) rfl
theorem q389 : (Jvm.Cond.arrayClass Jvm.ClassFile.FieldType.long) ∈ lw_all := lw_g (lw_at lw_m2 67 rfl) rfl
theorem q390 : (Jvm.Cond.arrayClass Jvm.ClassFile.FieldType.boolean) ∈ lw_all := lw_g (lw_at lw_m2 68 rfl) rfl
theorem q2066 : (Jvm.Cond.arrayClass Jvm.ClassFile.FieldType.char) ∈ lw_all := lw_g (lw_at lw_m9 64 rfl) rfl

theorem q804 : (Jvm.Cond.sameMethod "[B" "java/lang/Object" "clone" "()Ljava/lang/Object;") ∈ lw_all := lw_g (lw_at lw_m4 2 rfl) rfl
theorem q807 : (Jvm.Cond.selects "[B" ({ cls := "[B", name := "clone", desc := "()Ljava/lang/Object;" } : Jvm.MethodName) ({ cls := "java/lang/Object", name := "clone", desc := "()Ljava/lang/Object;" } : Jvm.MethodName)) ∈ lw_all := lw_g (lw_at lw_m4 5 rfl) rfl
theorem q808 : (Jvm.Cond.castable "[B" "java/lang/Cloneable") ∈ lw_tbl := lw_at lw_m4 6 rfl

theorem q115 : (Jvm.Cond.initialized "java/lang/Number") ∈ lw_all := lw_g (lw_at lw_m1 33 rfl) rfl

theorem q100 : (Jvm.Cond.initialized "java/lang/System") ∈ lw_all := lw_g (lw_at lw_m1 18 rfl) rfl
theorem q502 : (Jvm.Cond.static ({ cls := "java/lang/System", name := "arraycopy", desc := "(Ljava/lang/Object;ILjava/lang/Object;II)V" } : Jvm.MethodName)) ∈ lw_all := lw_g (lw_at lw_m2 180 rfl) rfl
theorem q503 : (Jvm.Cond.native ({ cls := "java/lang/System", name := "arraycopy", desc := "(Ljava/lang/Object;ILjava/lang/Object;II)V" } : Jvm.MethodName)) ∈ lw_all := lw_g (lw_at lw_m2 181 rfl) rfl

theorem q1124 : (Jvm.Cond.interfaceMethod "jdk/internal/access/JavaLangAccess" "jdk/internal/access/JavaLangAccess" "getUTF16Char" "([BI)C") ∈ lw_tbl := lw_at lw_m5 82 rfl
theorem q1125 : (Jvm.Cond.declares ({ cls := "jdk/internal/access/JavaLangAccess", name := "getUTF16Char", desc := "([BI)C" } : Jvm.MethodName)) ∈ lw_tbl := lw_at lw_m5 83 rfl

