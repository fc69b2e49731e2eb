set_option maxRecDepth 100000
abbrev cX0_left : ByteArray := prog_1_method_34_code
def yX0_left : MethodName := ⟨RX0, "left", "(I)I"⟩
def dkwX0_left_1 : List UInt8 := [167, 0, 9, 42, 16, 254, 182, 0, 105, 172]
abbrev dktX0_left_1 : List UInt8 := dkwX0_left_1 ++ []
def dkwX0_left_0 : List UInt8 := [42, 27, 182, 0, 247, 153, 0, 21, 42, 180, 0, 53, 42, 180, 0, 36, 27, 182, 0, 164, 182, 0, 250]
abbrev dktX0_left_0 : List UInt8 := dkwX0_left_0 ++ dktX0_left_1
theorem dksX0_left_0 : cX0_left.data.toList.drop 0 = dktX0_left_0 := by decide +kernel
theorem dksX0_left_1 : cX0_left.data.toList.drop 23 = dktX0_left_1 := dk_seg dksX0_left_0 23 rfl rfl
theorem dX0_left_0 : decode cX0_left 0 = .ok (.aload_n 0, 1) := dk_42 (dk_at dksX0_left_0 0 rfl rfl)
theorem dX0_left_1 : decode cX0_left 1 = .ok (.iload_n 1, 1) := dk_27 (dk_at dksX0_left_0 1 rfl rfl)
theorem dX0_left_2 : decode cX0_left 2 = .ok (.invokevirtual 247, 3) := dk_182 0 247 (dk_at dksX0_left_0 2 rfl rfl)
theorem dX0_left_5 : decode cX0_left 5 = .ok (.ifCond .eq 21, 3) := dk_153 0 21 (dk_at dksX0_left_0 5 rfl rfl)
theorem dX0_left_8 : decode cX0_left 8 = .ok (.aload_n 0, 1) := dk_42 (dk_at dksX0_left_0 8 rfl rfl)
theorem dX0_left_9 : decode cX0_left 9 = .ok (.getfield 53, 3) := dk_180 0 53 (dk_at dksX0_left_0 9 rfl rfl)
theorem dX0_left_12 : decode cX0_left 12 = .ok (.aload_n 0, 1) := dk_42 (dk_at dksX0_left_0 12 rfl rfl)
theorem dX0_left_13 : decode cX0_left 13 = .ok (.getfield 36, 3) := dk_180 0 36 (dk_at dksX0_left_0 13 rfl rfl)
theorem dX0_left_16 : decode cX0_left 16 = .ok (.iload_n 1, 1) := dk_27 (dk_at dksX0_left_0 16 rfl rfl)
theorem dX0_left_17 : decode cX0_left 17 = .ok (.invokevirtual 164, 3) := dk_182 0 164 (dk_at dksX0_left_0 17 rfl rfl)
theorem dX0_left_20 : decode cX0_left 20 = .ok (.invokevirtual 250, 3) := dk_182 0 250 (dk_at dksX0_left_0 20 rfl rfl)
theorem dX0_left_23 : decode cX0_left 23 = .ok (.goto 9, 3) := dk_167 0 9 (dk_at dksX0_left_1 0 rfl rfl)
theorem dX0_left_26 : decode cX0_left 26 = .ok (.aload_n 0, 1) := dk_42 (dk_at dksX0_left_1 3 rfl rfl)
theorem dX0_left_27 : decode cX0_left 27 = .ok (.bipush (-2), 2) := dk_16 254 (dk_at dksX0_left_1 4 rfl rfl)
theorem dX0_left_29 : decode cX0_left 29 = .ok (.invokevirtual 105, 3) := dk_182 0 105 (dk_at dksX0_left_1 6 rfl rfl)
theorem dX0_left_32 : decode cX0_left 32 = .ok (.ireturn, 1) := dk_172 (dk_at dksX0_left_1 9 rfl rfl)
abbrev cX0_isSet : ByteArray := prog_1_method_9_code
def yX0_isSet : MethodName := ⟨RX0, "isSet", "(I)Z"⟩
def dkwX0_isSet_0 : List UInt8 := [27, 3, 42, 180, 0, 36, 182, 0, 80, 184, 0, 3, 172]
abbrev dktX0_isSet_0 : List UInt8 := dkwX0_isSet_0 ++ []
theorem dksX0_isSet_0 : cX0_isSet.data.toList.drop 0 = dktX0_isSet_0 := by decide +kernel
theorem dX0_isSet_0 : decode cX0_isSet 0 = .ok (.iload_n 1, 1) := dk_27 (dk_at dksX0_isSet_0 0 rfl rfl)
theorem dX0_isSet_1 : decode cX0_isSet 1 = .ok (.iconst 0, 1) := dk_3 (dk_at dksX0_isSet_0 1 rfl rfl)
theorem dX0_isSet_2 : decode cX0_isSet 2 = .ok (.aload_n 0, 1) := dk_42 (dk_at dksX0_isSet_0 2 rfl rfl)
theorem dX0_isSet_3 : decode cX0_isSet 3 = .ok (.getfield 36, 3) := dk_180 0 36 (dk_at dksX0_isSet_0 3 rfl rfl)
theorem dX0_isSet_6 : decode cX0_isSet 6 = .ok (.invokevirtual 80, 3) := dk_182 0 80 (dk_at dksX0_isSet_0 6 rfl rfl)
theorem dX0_isSet_9 : decode cX0_isSet 9 = .ok (.invokestatic 3, 3) := dk_184 0 3 (dk_at dksX0_isSet_0 9 rfl rfl)
theorem dX0_isSet_12 : decode cX0_isSet 12 = .ok (.ireturn, 1) := dk_172 (dk_at dksX0_isSet_0 12 rfl rfl)
abbrev cX0_taken : ByteArray := prog_1_method_35_code
def yX0_taken : MethodName := ⟨RX0, "taken", "(II)I"⟩
def dkwX0_taken_1 : List UInt8 := [180, 0, 36, 27, 182, 0, 164, 180, 0, 168, 28, 46, 167, 0, 9, 42, 16, 254, 182, 0, 105, 172]
abbrev dktX0_taken_1 : List UInt8 := dkwX0_taken_1 ++ []
def dkwX0_taken_0 : List UInt8 := [42, 27, 182, 0, 247, 153, 0, 34, 42, 180, 0, 36, 28, 182, 0, 157, 153, 0, 23, 42, 180, 0, 53, 42]
abbrev dktX0_taken_0 : List UInt8 := dkwX0_taken_0 ++ dktX0_taken_1
theorem dksX0_taken_0 : cX0_taken.data.toList.drop 0 = dktX0_taken_0 := by decide +kernel
theorem dksX0_taken_1 : cX0_taken.data.toList.drop 24 = dktX0_taken_1 := dk_seg dksX0_taken_0 24 rfl rfl
theorem dX0_taken_0 : decode cX0_taken 0 = .ok (.aload_n 0, 1) := dk_42 (dk_at dksX0_taken_0 0 rfl rfl)
theorem dX0_taken_1 : decode cX0_taken 1 = .ok (.iload_n 1, 1) := dk_27 (dk_at dksX0_taken_0 1 rfl rfl)
theorem dX0_taken_2 : decode cX0_taken 2 = .ok (.invokevirtual 247, 3) := dk_182 0 247 (dk_at dksX0_taken_0 2 rfl rfl)
theorem dX0_taken_5 : decode cX0_taken 5 = .ok (.ifCond .eq 34, 3) := dk_153 0 34 (dk_at dksX0_taken_0 5 rfl rfl)
theorem dX0_taken_8 : decode cX0_taken 8 = .ok (.aload_n 0, 1) := dk_42 (dk_at dksX0_taken_0 8 rfl rfl)
theorem dX0_taken_9 : decode cX0_taken 9 = .ok (.getfield 36, 3) := dk_180 0 36 (dk_at dksX0_taken_0 9 rfl rfl)
theorem dX0_taken_12 : decode cX0_taken 12 = .ok (.iload_n 2, 1) := dk_28 (dk_at dksX0_taken_0 12 rfl rfl)
theorem dX0_taken_13 : decode cX0_taken 13 = .ok (.invokevirtual 157, 3) := dk_182 0 157 (dk_at dksX0_taken_0 13 rfl rfl)
theorem dX0_taken_16 : decode cX0_taken 16 = .ok (.ifCond .eq 23, 3) := dk_153 0 23 (dk_at dksX0_taken_0 16 rfl rfl)
theorem dX0_taken_19 : decode cX0_taken 19 = .ok (.aload_n 0, 1) := dk_42 (dk_at dksX0_taken_0 19 rfl rfl)
theorem dX0_taken_20 : decode cX0_taken 20 = .ok (.getfield 53, 3) := dk_180 0 53 (dk_at dksX0_taken_0 20 rfl rfl)
theorem dX0_taken_23 : decode cX0_taken 23 = .ok (.aload_n 0, 1) := dk_42 (dk_at dksX0_taken_0 23 rfl rfl)
theorem dX0_taken_24 : decode cX0_taken 24 = .ok (.getfield 36, 3) := dk_180 0 36 (dk_at dksX0_taken_1 0 rfl rfl)
theorem dX0_taken_27 : decode cX0_taken 27 = .ok (.iload_n 1, 1) := dk_27 (dk_at dksX0_taken_1 3 rfl rfl)
theorem dX0_taken_28 : decode cX0_taken 28 = .ok (.invokevirtual 164, 3) := dk_182 0 164 (dk_at dksX0_taken_1 4 rfl rfl)
theorem dX0_taken_31 : decode cX0_taken 31 = .ok (.getfield 168, 3) := dk_180 0 168 (dk_at dksX0_taken_1 7 rfl rfl)
theorem dX0_taken_34 : decode cX0_taken 34 = .ok (.iload_n 2, 1) := dk_28 (dk_at dksX0_taken_1 10 rfl rfl)
theorem dX0_taken_35 : decode cX0_taken 35 = .ok (.iaload, 1) := dk_46 (dk_at dksX0_taken_1 11 rfl rfl)
theorem dX0_taken_36 : decode cX0_taken 36 = .ok (.goto 9, 3) := dk_167 0 9 (dk_at dksX0_taken_1 12 rfl rfl)
theorem dX0_taken_39 : decode cX0_taken 39 = .ok (.aload_n 0, 1) := dk_42 (dk_at dksX0_taken_1 15 rfl rfl)
theorem dX0_taken_40 : decode cX0_taken 40 = .ok (.bipush (-2), 2) := dk_16 254 (dk_at dksX0_taken_1 16 rfl rfl)
theorem dX0_taken_42 : decode cX0_taken 42 = .ok (.invokevirtual 105, 3) := dk_182 0 105 (dk_at dksX0_taken_1 18 rfl rfl)
theorem dX0_taken_45 : decode cX0_taken 45 = .ok (.ireturn, 1) := dk_172 (dk_at dksX0_taken_1 21 rfl rfl)
abbrev cX0_glad : ByteArray := prog_1_method_36_code
def yX0_glad : MethodName := ⟨RX0, "glad", "(II)I"⟩
def dkwX0_glad_2 : List UInt8 := [167, 0, 14, 42, 180, 0, 53, 27, 182, 1, 0, 184, 1, 3, 172]
abbrev dktX0_glad_2 : List UInt8 := dkwX0_glad_2 ++ []
def dkwX0_glad_1 : List UInt8 := [42, 180, 0, 53, 42, 180, 0, 36, 27, 182, 0, 164, 87, 28, 154, 0, 13, 42, 180, 0, 53, 182, 0, 253]
abbrev dktX0_glad_1 : List UInt8 := dkwX0_glad_1 ++ dktX0_glad_2
def dkwX0_glad_0 : List UInt8 := [42, 27, 182, 0, 247, 153, 0, 12, 28, 3, 4, 184, 0, 3, 154, 0, 10, 42, 16, 254, 182, 0, 105, 172]
abbrev dktX0_glad_0 : List UInt8 := dkwX0_glad_0 ++ dktX0_glad_1
theorem dksX0_glad_0 : cX0_glad.data.toList.drop 0 = dktX0_glad_0 := by decide +kernel
theorem dksX0_glad_1 : cX0_glad.data.toList.drop 24 = dktX0_glad_1 := dk_seg dksX0_glad_0 24 rfl rfl
theorem dksX0_glad_2 : cX0_glad.data.toList.drop 48 = dktX0_glad_2 := dk_seg dksX0_glad_1 24 rfl rfl
theorem dX0_glad_0 : decode cX0_glad 0 = .ok (.aload_n 0, 1) := dk_42 (dk_at dksX0_glad_0 0 rfl rfl)
theorem dX0_glad_1 : decode cX0_glad 1 = .ok (.iload_n 1, 1) := dk_27 (dk_at dksX0_glad_0 1 rfl rfl)
theorem dX0_glad_2 : decode cX0_glad 2 = .ok (.invokevirtual 247, 3) := dk_182 0 247 (dk_at dksX0_glad_0 2 rfl rfl)
theorem dX0_glad_5 : decode cX0_glad 5 = .ok (.ifCond .eq 12, 3) := dk_153 0 12 (dk_at dksX0_glad_0 5 rfl rfl)
theorem dX0_glad_8 : decode cX0_glad 8 = .ok (.iload_n 2, 1) := dk_28 (dk_at dksX0_glad_0 8 rfl rfl)
theorem dX0_glad_9 : decode cX0_glad 9 = .ok (.iconst 0, 1) := dk_3 (dk_at dksX0_glad_0 9 rfl rfl)
theorem dX0_glad_10 : decode cX0_glad 10 = .ok (.iconst 1, 1) := dk_4 (dk_at dksX0_glad_0 10 rfl rfl)
theorem dX0_glad_11 : decode cX0_glad 11 = .ok (.invokestatic 3, 3) := dk_184 0 3 (dk_at dksX0_glad_0 11 rfl rfl)
theorem dX0_glad_14 : decode cX0_glad 14 = .ok (.ifCond .ne 10, 3) := dk_154 0 10 (dk_at dksX0_glad_0 14 rfl rfl)
theorem dX0_glad_17 : decode cX0_glad 17 = .ok (.aload_n 0, 1) := dk_42 (dk_at dksX0_glad_0 17 rfl rfl)
theorem dX0_glad_18 : decode cX0_glad 18 = .ok (.bipush (-2), 2) := dk_16 254 (dk_at dksX0_glad_0 18 rfl rfl)
theorem dX0_glad_20 : decode cX0_glad 20 = .ok (.invokevirtual 105, 3) := dk_182 0 105 (dk_at dksX0_glad_0 20 rfl rfl)
theorem dX0_glad_23 : decode cX0_glad 23 = .ok (.ireturn, 1) := dk_172 (dk_at dksX0_glad_0 23 rfl rfl)
theorem dX0_glad_24 : decode cX0_glad 24 = .ok (.aload_n 0, 1) := dk_42 (dk_at dksX0_glad_1 0 rfl rfl)
theorem dX0_glad_25 : decode cX0_glad 25 = .ok (.getfield 53, 3) := dk_180 0 53 (dk_at dksX0_glad_1 1 rfl rfl)
theorem dX0_glad_28 : decode cX0_glad 28 = .ok (.aload_n 0, 1) := dk_42 (dk_at dksX0_glad_1 4 rfl rfl)
theorem dX0_glad_29 : decode cX0_glad 29 = .ok (.getfield 36, 3) := dk_180 0 36 (dk_at dksX0_glad_1 5 rfl rfl)
theorem dX0_glad_32 : decode cX0_glad 32 = .ok (.iload_n 1, 1) := dk_27 (dk_at dksX0_glad_1 8 rfl rfl)
theorem dX0_glad_33 : decode cX0_glad 33 = .ok (.invokevirtual 164, 3) := dk_182 0 164 (dk_at dksX0_glad_1 9 rfl rfl)
theorem dX0_glad_36 : decode cX0_glad 36 = .ok (.pop, 1) := dk_87 (dk_at dksX0_glad_1 12 rfl rfl)
theorem dX0_glad_37 : decode cX0_glad 37 = .ok (.iload_n 2, 1) := dk_28 (dk_at dksX0_glad_1 13 rfl rfl)
theorem dX0_glad_38 : decode cX0_glad 38 = .ok (.ifCond .ne 13, 3) := dk_154 0 13 (dk_at dksX0_glad_1 14 rfl rfl)
theorem dX0_glad_41 : decode cX0_glad 41 = .ok (.aload_n 0, 1) := dk_42 (dk_at dksX0_glad_1 17 rfl rfl)
theorem dX0_glad_42 : decode cX0_glad 42 = .ok (.getfield 53, 3) := dk_180 0 53 (dk_at dksX0_glad_1 18 rfl rfl)
theorem dX0_glad_45 : decode cX0_glad 45 = .ok (.invokevirtual 253, 3) := dk_182 0 253 (dk_at dksX0_glad_1 21 rfl rfl)
theorem dX0_glad_48 : decode cX0_glad 48 = .ok (.goto 14, 3) := dk_167 0 14 (dk_at dksX0_glad_2 0 rfl rfl)
theorem dX0_glad_51 : decode cX0_glad 51 = .ok (.aload_n 0, 1) := dk_42 (dk_at dksX0_glad_2 3 rfl rfl)
theorem dX0_glad_52 : decode cX0_glad 52 = .ok (.getfield 53, 3) := dk_180 0 53 (dk_at dksX0_glad_2 4 rfl rfl)
theorem dX0_glad_55 : decode cX0_glad 55 = .ok (.iload_n 1, 1) := dk_27 (dk_at dksX0_glad_2 7 rfl rfl)
theorem dX0_glad_56 : decode cX0_glad 56 = .ok (.invokevirtual 256, 3) := dk_182 1 0 (dk_at dksX0_glad_2 8 rfl rfl)
theorem dX0_glad_59 : decode cX0_glad 59 = .ok (.invokestatic 259, 3) := dk_184 1 3 (dk_at dksX0_glad_2 11 rfl rfl)
theorem dX0_glad_62 : decode cX0_glad 62 = .ok (.ireturn, 1) := dk_172 (dk_at dksX0_glad_2 14 rfl rfl)
abbrev cX0_places : ByteArray := prog_1_method_37_code
def yX0_places : MethodName := ⟨RX0, "places", "()I"⟩
def dkwX0_places_0 : List UInt8 := [42, 180, 0, 36, 180, 0, 186, 182, 1, 8, 172]
abbrev dktX0_places_0 : List UInt8 := dkwX0_places_0 ++ []
theorem dksX0_places_0 : cX0_places.data.toList.drop 0 = dktX0_places_0 := by decide +kernel
theorem dX0_places_0 : decode cX0_places 0 = .ok (.aload_n 0, 1) := dk_42 (dk_at dksX0_places_0 0 rfl rfl)
theorem dX0_places_1 : decode cX0_places 1 = .ok (.getfield 36, 3) := dk_180 0 36 (dk_at dksX0_places_0 1 rfl rfl)
theorem dX0_places_4 : decode cX0_places 4 = .ok (.getfield 186, 3) := dk_180 0 186 (dk_at dksX0_places_0 4 rfl rfl)
theorem dX0_places_7 : decode cX0_places 7 = .ok (.invokevirtual 264, 3) := dk_182 1 8 (dk_at dksX0_places_0 7 rfl rfl)
theorem dX0_places_10 : decode cX0_places 10 = .ok (.ireturn, 1) := dk_172 (dk_at dksX0_places_0 10 rfl rfl)
abbrev cX0_gladOnes : ByteArray := prog_1_method_38_code
def yX0_gladOnes : MethodName := ⟨RX0, "gladOnes", "(I)I"⟩
def dkwX0_gladOnes_1 : List UInt8 := [167, 0, 9, 42, 16, 254, 182, 0, 105, 172]
abbrev dktX0_gladOnes_1 : List UInt8 := dkwX0_gladOnes_1 ++ []
def dkwX0_gladOnes_0 : List UInt8 := [42, 27, 182, 0, 247, 153, 0, 21, 42, 180, 0, 53, 42, 180, 0, 36, 27, 182, 0, 164, 180, 1, 11]
abbrev dktX0_gladOnes_0 : List UInt8 := dkwX0_gladOnes_0 ++ dktX0_gladOnes_1
theorem dksX0_gladOnes_0 : cX0_gladOnes.data.toList.drop 0 = dktX0_gladOnes_0 := by decide +kernel
theorem dksX0_gladOnes_1 : cX0_gladOnes.data.toList.drop 23 = dktX0_gladOnes_1 := dk_seg dksX0_gladOnes_0 23 rfl rfl
theorem dX0_gladOnes_0 : decode cX0_gladOnes 0 = .ok (.aload_n 0, 1) := dk_42 (dk_at dksX0_gladOnes_0 0 rfl rfl)
theorem dX0_gladOnes_1 : decode cX0_gladOnes 1 = .ok (.iload_n 1, 1) := dk_27 (dk_at dksX0_gladOnes_0 1 rfl rfl)
theorem dX0_gladOnes_2 : decode cX0_gladOnes 2 = .ok (.invokevirtual 247, 3) := dk_182 0 247 (dk_at dksX0_gladOnes_0 2 rfl rfl)
theorem dX0_gladOnes_5 : decode cX0_gladOnes 5 = .ok (.ifCond .eq 21, 3) := dk_153 0 21 (dk_at dksX0_gladOnes_0 5 rfl rfl)
theorem dX0_gladOnes_8 : decode cX0_gladOnes 8 = .ok (.aload_n 0, 1) := dk_42 (dk_at dksX0_gladOnes_0 8 rfl rfl)
theorem dX0_gladOnes_9 : decode cX0_gladOnes 9 = .ok (.getfield 53, 3) := dk_180 0 53 (dk_at dksX0_gladOnes_0 9 rfl rfl)
theorem dX0_gladOnes_12 : decode cX0_gladOnes 12 = .ok (.aload_n 0, 1) := dk_42 (dk_at dksX0_gladOnes_0 12 rfl rfl)
theorem dX0_gladOnes_13 : decode cX0_gladOnes 13 = .ok (.getfield 36, 3) := dk_180 0 36 (dk_at dksX0_gladOnes_0 13 rfl rfl)
theorem dX0_gladOnes_16 : decode cX0_gladOnes 16 = .ok (.iload_n 1, 1) := dk_27 (dk_at dksX0_gladOnes_0 16 rfl rfl)
theorem dX0_gladOnes_17 : decode cX0_gladOnes 17 = .ok (.invokevirtual 164, 3) := dk_182 0 164 (dk_at dksX0_gladOnes_0 17 rfl rfl)
theorem dX0_gladOnes_20 : decode cX0_gladOnes 20 = .ok (.getfield 267, 3) := dk_180 1 11 (dk_at dksX0_gladOnes_0 20 rfl rfl)
theorem dX0_gladOnes_23 : decode cX0_gladOnes 23 = .ok (.goto 9, 3) := dk_167 0 9 (dk_at dksX0_gladOnes_1 0 rfl rfl)
theorem dX0_gladOnes_26 : decode cX0_gladOnes 26 = .ok (.aload_n 0, 1) := dk_42 (dk_at dksX0_gladOnes_1 3 rfl rfl)
theorem dX0_gladOnes_27 : decode cX0_gladOnes 27 = .ok (.bipush (-2), 2) := dk_16 254 (dk_at dksX0_gladOnes_1 4 rfl rfl)
theorem dX0_gladOnes_29 : decode cX0_gladOnes 29 = .ok (.invokevirtual 105, 3) := dk_182 0 105 (dk_at dksX0_gladOnes_1 6 rfl rfl)
theorem dX0_gladOnes_32 : decode cX0_gladOnes 32 = .ok (.ireturn, 1) := dk_172 (dk_at dksX0_gladOnes_1 9 rfl rfl)
abbrev cX0_empty : ByteArray := prog_1_method_39_code
def yX0_empty : MethodName := ⟨RX0, "empty", "(I)I"⟩
def dkwX0_empty_1 : List UInt8 := [167, 0, 9, 42, 16, 254, 182, 0, 105, 172]
abbrev dktX0_empty_1 : List UInt8 := dkwX0_empty_1 ++ []
def dkwX0_empty_0 : List UInt8 := [42, 27, 182, 0, 247, 153, 0, 22, 42, 180, 0, 53, 42, 180, 0, 36, 27, 182, 0, 164, 27, 182, 1, 0]
abbrev dktX0_empty_0 : List UInt8 := dkwX0_empty_0 ++ dktX0_empty_1
theorem dksX0_empty_0 : cX0_empty.data.toList.drop 0 = dktX0_empty_0 := by decide +kernel
theorem dksX0_empty_1 : cX0_empty.data.toList.drop 24 = dktX0_empty_1 := dk_seg dksX0_empty_0 24 rfl rfl
theorem dX0_empty_0 : decode cX0_empty 0 = .ok (.aload_n 0, 1) := dk_42 (dk_at dksX0_empty_0 0 rfl rfl)
theorem dX0_empty_1 : decode cX0_empty 1 = .ok (.iload_n 1, 1) := dk_27 (dk_at dksX0_empty_0 1 rfl rfl)
theorem dX0_empty_2 : decode cX0_empty 2 = .ok (.invokevirtual 247, 3) := dk_182 0 247 (dk_at dksX0_empty_0 2 rfl rfl)
theorem dX0_empty_5 : decode cX0_empty 5 = .ok (.ifCond .eq 22, 3) := dk_153 0 22 (dk_at dksX0_empty_0 5 rfl rfl)
theorem dX0_empty_8 : decode cX0_empty 8 = .ok (.aload_n 0, 1) := dk_42 (dk_at dksX0_empty_0 8 rfl rfl)
theorem dX0_empty_9 : decode cX0_empty 9 = .ok (.getfield 53, 3) := dk_180 0 53 (dk_at dksX0_empty_0 9 rfl rfl)
theorem dX0_empty_12 : decode cX0_empty 12 = .ok (.aload_n 0, 1) := dk_42 (dk_at dksX0_empty_0 12 rfl rfl)
theorem dX0_empty_13 : decode cX0_empty 13 = .ok (.getfield 36, 3) := dk_180 0 36 (dk_at dksX0_empty_0 13 rfl rfl)
theorem dX0_empty_16 : decode cX0_empty 16 = .ok (.iload_n 1, 1) := dk_27 (dk_at dksX0_empty_0 16 rfl rfl)
theorem dX0_empty_17 : decode cX0_empty 17 = .ok (.invokevirtual 164, 3) := dk_182 0 164 (dk_at dksX0_empty_0 17 rfl rfl)
theorem dX0_empty_20 : decode cX0_empty 20 = .ok (.iload_n 1, 1) := dk_27 (dk_at dksX0_empty_0 20 rfl rfl)
theorem dX0_empty_21 : decode cX0_empty 21 = .ok (.invokevirtual 256, 3) := dk_182 1 0 (dk_at dksX0_empty_0 21 rfl rfl)
theorem dX0_empty_24 : decode cX0_empty 24 = .ok (.goto 9, 3) := dk_167 0 9 (dk_at dksX0_empty_1 0 rfl rfl)
theorem dX0_empty_27 : decode cX0_empty 27 = .ok (.aload_n 0, 1) := dk_42 (dk_at dksX0_empty_1 3 rfl rfl)
theorem dX0_empty_28 : decode cX0_empty 28 = .ok (.bipush (-2), 2) := dk_16 254 (dk_at dksX0_empty_1 4 rfl rfl)
theorem dX0_empty_30 : decode cX0_empty 30 = .ok (.invokevirtual 105, 3) := dk_182 0 105 (dk_at dksX0_empty_1 6 rfl rfl)
theorem dX0_empty_33 : decode cX0_empty 33 = .ok (.ireturn, 1) := dk_172 (dk_at dksX0_empty_1 9 rfl rfl)
abbrev cX0_order : ByteArray := prog_1_method_41_code
def yX0_order : MethodName := ⟨RX0, "order", "(II)I"⟩
def dkwX0_order_1 : List UInt8 := [28, 182, 1, 17, 167, 0, 9, 42, 16, 254, 182, 0, 105, 172]
abbrev dktX0_order_1 : List UInt8 := dkwX0_order_1 ++ []
def dkwX0_order_0 : List UInt8 := [42, 27, 182, 0, 247, 153, 0, 26, 28, 3, 27, 184, 1, 3, 4, 100, 184, 0, 3, 153, 0, 12, 42, 27]
abbrev dktX0_order_0 : List UInt8 := dkwX0_order_0 ++ dktX0_order_1
theorem dksX0_order_0 : cX0_order.data.toList.drop 0 = dktX0_order_0 := by decide +kernel
theorem dksX0_order_1 : cX0_order.data.toList.drop 24 = dktX0_order_1 := dk_seg dksX0_order_0 24 rfl rfl
theorem dX0_order_0 : decode cX0_order 0 = .ok (.aload_n 0, 1) := dk_42 (dk_at dksX0_order_0 0 rfl rfl)
theorem dX0_order_1 : decode cX0_order 1 = .ok (.iload_n 1, 1) := dk_27 (dk_at dksX0_order_0 1 rfl rfl)
theorem dX0_order_2 : decode cX0_order 2 = .ok (.invokevirtual 247, 3) := dk_182 0 247 (dk_at dksX0_order_0 2 rfl rfl)
theorem dX0_order_5 : decode cX0_order 5 = .ok (.ifCond .eq 26, 3) := dk_153 0 26 (dk_at dksX0_order_0 5 rfl rfl)
theorem dX0_order_8 : decode cX0_order 8 = .ok (.iload_n 2, 1) := dk_28 (dk_at dksX0_order_0 8 rfl rfl)
theorem dX0_order_9 : decode cX0_order 9 = .ok (.iconst 0, 1) := dk_3 (dk_at dksX0_order_0 9 rfl rfl)
theorem dX0_order_10 : decode cX0_order 10 = .ok (.iload_n 1, 1) := dk_27 (dk_at dksX0_order_0 10 rfl rfl)
theorem dX0_order_11 : decode cX0_order 11 = .ok (.invokestatic 259, 3) := dk_184 1 3 (dk_at dksX0_order_0 11 rfl rfl)
theorem dX0_order_14 : decode cX0_order 14 = .ok (.iconst 1, 1) := dk_4 (dk_at dksX0_order_0 14 rfl rfl)
theorem dX0_order_15 : decode cX0_order 15 = .ok (.isub, 1) := dk_100 (dk_at dksX0_order_0 15 rfl rfl)
theorem dX0_order_16 : decode cX0_order 16 = .ok (.invokestatic 3, 3) := dk_184 0 3 (dk_at dksX0_order_0 16 rfl rfl)
theorem dX0_order_19 : decode cX0_order 19 = .ok (.ifCond .eq 12, 3) := dk_153 0 12 (dk_at dksX0_order_0 19 rfl rfl)
theorem dX0_order_22 : decode cX0_order 22 = .ok (.aload_n 0, 1) := dk_42 (dk_at dksX0_order_0 22 rfl rfl)
theorem dX0_order_23 : decode cX0_order 23 = .ok (.iload_n 1, 1) := dk_27 (dk_at dksX0_order_0 23 rfl rfl)
theorem dX0_order_24 : decode cX0_order 24 = .ok (.iload_n 2, 1) := dk_28 (dk_at dksX0_order_1 0 rfl rfl)
theorem dX0_order_25 : decode cX0_order 25 = .ok (.invokevirtual 273, 3) := dk_182 1 17 (dk_at dksX0_order_1 1 rfl rfl)
theorem dX0_order_28 : decode cX0_order 28 = .ok (.goto 9, 3) := dk_167 0 9 (dk_at dksX0_order_1 4 rfl rfl)
theorem dX0_order_31 : decode cX0_order 31 = .ok (.aload_n 0, 1) := dk_42 (dk_at dksX0_order_1 7 rfl rfl)
theorem dX0_order_32 : decode cX0_order 32 = .ok (.bipush (-2), 2) := dk_16 254 (dk_at dksX0_order_1 8 rfl rfl)
theorem dX0_order_34 : decode cX0_order 34 = .ok (.invokevirtual 105, 3) := dk_182 0 105 (dk_at dksX0_order_1 10 rfl rfl)
theorem dX0_order_37 : decode cX0_order 37 = .ok (.ireturn, 1) := dk_172 (dk_at dksX0_order_1 13 rfl rfl)
abbrev cX0_inOrder : ByteArray := prog_1_method_40_code
def yX0_inOrder : MethodName := ⟨RX0, "inOrder", "(II)I"⟩
def dkwX0_inOrder_1 : List UInt8 := [126, 62, 132, 4, 1, 167, 255, 232, 42, 180, 0, 36, 29, 182, 1, 14, 172]
abbrev dktX0_inOrder_1 : List UInt8 := dkwX0_inOrder_1 ++ []
def dkwX0_inOrder_0 : List UInt8 := [27, 62, 3, 54, 4, 21, 4, 28, 162, 0, 24, 29, 4, 42, 180, 0, 36, 29, 182, 1, 14, 120, 2, 130]
abbrev dktX0_inOrder_0 : List UInt8 := dkwX0_inOrder_0 ++ dktX0_inOrder_1
theorem dksX0_inOrder_0 : cX0_inOrder.data.toList.drop 0 = dktX0_inOrder_0 := by decide +kernel
theorem dksX0_inOrder_1 : cX0_inOrder.data.toList.drop 24 = dktX0_inOrder_1 := dk_seg dksX0_inOrder_0 24 rfl rfl
theorem dX0_inOrder_0 : decode cX0_inOrder 0 = .ok (.iload_n 1, 1) := dk_27 (dk_at dksX0_inOrder_0 0 rfl rfl)
theorem dX0_inOrder_1 : decode cX0_inOrder 1 = .ok (.istore_n 3, 1) := dk_62 (dk_at dksX0_inOrder_0 1 rfl rfl)
theorem dX0_inOrder_2 : decode cX0_inOrder 2 = .ok (.iconst 0, 1) := dk_3 (dk_at dksX0_inOrder_0 2 rfl rfl)
theorem dX0_inOrder_3 : decode cX0_inOrder 3 = .ok (.istore 4, 2) := dk_54 4 (dk_at dksX0_inOrder_0 3 rfl rfl)
theorem dX0_inOrder_5 : decode cX0_inOrder 5 = .ok (.iload 4, 2) := dk_21 4 (dk_at dksX0_inOrder_0 5 rfl rfl)
theorem dX0_inOrder_7 : decode cX0_inOrder 7 = .ok (.iload_n 2, 1) := dk_28 (dk_at dksX0_inOrder_0 7 rfl rfl)
theorem dX0_inOrder_8 : decode cX0_inOrder 8 = .ok (.if_icmp .ge 24, 3) := dk_162 0 24 (dk_at dksX0_inOrder_0 8 rfl rfl)
theorem dX0_inOrder_11 : decode cX0_inOrder 11 = .ok (.iload_n 3, 1) := dk_29 (dk_at dksX0_inOrder_0 11 rfl rfl)
theorem dX0_inOrder_12 : decode cX0_inOrder 12 = .ok (.iconst 1, 1) := dk_4 (dk_at dksX0_inOrder_0 12 rfl rfl)
theorem dX0_inOrder_13 : decode cX0_inOrder 13 = .ok (.aload_n 0, 1) := dk_42 (dk_at dksX0_inOrder_0 13 rfl rfl)
theorem dX0_inOrder_14 : decode cX0_inOrder 14 = .ok (.getfield 36, 3) := dk_180 0 36 (dk_at dksX0_inOrder_0 14 rfl rfl)
theorem dX0_inOrder_17 : decode cX0_inOrder 17 = .ok (.iload_n 3, 1) := dk_29 (dk_at dksX0_inOrder_0 17 rfl rfl)
theorem dX0_inOrder_18 : decode cX0_inOrder 18 = .ok (.invokevirtual 270, 3) := dk_182 1 14 (dk_at dksX0_inOrder_0 18 rfl rfl)
theorem dX0_inOrder_21 : decode cX0_inOrder 21 = .ok (.ishl, 1) := dk_120 (dk_at dksX0_inOrder_0 21 rfl rfl)
theorem dX0_inOrder_22 : decode cX0_inOrder 22 = .ok (.iconst (-1), 1) := dk_2 (dk_at dksX0_inOrder_0 22 rfl rfl)
theorem dX0_inOrder_23 : decode cX0_inOrder 23 = .ok (.ixor, 1) := dk_130 (dk_at dksX0_inOrder_0 23 rfl rfl)
theorem dX0_inOrder_24 : decode cX0_inOrder 24 = .ok (.iand, 1) := dk_126 (dk_at dksX0_inOrder_1 0 rfl rfl)
theorem dX0_inOrder_25 : decode cX0_inOrder 25 = .ok (.istore_n 3, 1) := dk_62 (dk_at dksX0_inOrder_1 1 rfl rfl)
theorem dX0_inOrder_26 : decode cX0_inOrder 26 = .ok (.iinc 4 1, 3) := dk_132 4 1 (dk_at dksX0_inOrder_1 2 rfl rfl)
theorem dX0_inOrder_29 : decode cX0_inOrder 29 = .ok (.goto (-24), 3) := dk_167 255 232 (dk_at dksX0_inOrder_1 5 rfl rfl)
theorem dX0_inOrder_32 : decode cX0_inOrder 32 = .ok (.aload_n 0, 1) := dk_42 (dk_at dksX0_inOrder_1 8 rfl rfl)
theorem dX0_inOrder_33 : decode cX0_inOrder 33 = .ok (.getfield 36, 3) := dk_180 0 36 (dk_at dksX0_inOrder_1 9 rfl rfl)
theorem dX0_inOrder_36 : decode cX0_inOrder 36 = .ok (.iload_n 3, 1) := dk_29 (dk_at dksX0_inOrder_1 12 rfl rfl)
theorem dX0_inOrder_37 : decode cX0_inOrder 37 = .ok (.invokevirtual 270, 3) := dk_182 1 14 (dk_at dksX0_inOrder_1 13 rfl rfl)
theorem dX0_inOrder_40 : decode cX0_inOrder 40 = .ok (.ireturn, 1) := dk_172 (dk_at dksX0_inOrder_1 16 rfl rfl)
abbrev cX0_away : ByteArray := prog_1_method_43_code
def yX0_away : MethodName := ⟨RX0, "away", "(II)I"⟩
def dkwX0_away_5 : List UInt8 := [160, 0, 7, 29, 167, 0, 7, 29, 184, 1, 3, 172]
abbrev dktX0_away_5 : List UInt8 := dkwX0_away_5 ++ []
def dkwX0_away_4 : List UInt8 := [126, 27, 182, 1, 21, 153, 0, 6, 21, 4, 62, 132, 4, 1, 167, 255, 180, 28, 4, 159, 0, 8, 29, 2]
abbrev dktX0_away_4 : List UInt8 := dkwX0_away_4 ++ dktX0_away_5
def dkwX0_away_3 : List UInt8 := [153, 0, 35, 21, 4, 27, 184, 0, 202, 154, 0, 26, 42, 42, 180, 0, 36, 182, 0, 80, 21, 4, 2, 130]
abbrev dktX0_away_3 : List UInt8 := dkwX0_away_3 ++ dktX0_away_4
def dkwX0_away_2 : List UInt8 := [159, 0, 15, 21, 4, 184, 1, 3, 29, 184, 1, 3, 162, 0, 7, 4, 167, 0, 4, 3, 54, 5, 21, 5]
abbrev dktX0_away_2 : List UInt8 := dkwX0_away_2 ++ dktX0_away_3
def dkwX0_away_1 : List UInt8 := [182, 0, 105, 172, 2, 62, 3, 54, 4, 21, 4, 42, 180, 0, 36, 182, 0, 80, 163, 0, 70, 29, 2]
abbrev dktX0_away_1 : List UInt8 := dkwX0_away_1 ++ dktX0_away_2
def dkwX0_away_0 : List UInt8 := [42, 180, 0, 36, 27, 182, 0, 157, 153, 0, 12, 28, 3, 4, 184, 0, 3, 154, 0, 10, 42, 16, 254]
abbrev dktX0_away_0 : List UInt8 := dkwX0_away_0 ++ dktX0_away_1
theorem dksX0_away_0 : cX0_away.data.toList.drop 0 = dktX0_away_0 := by decide +kernel
theorem dksX0_away_1 : cX0_away.data.toList.drop 23 = dktX0_away_1 := dk_seg dksX0_away_0 23 rfl rfl
theorem dksX0_away_2 : cX0_away.data.toList.drop 46 = dktX0_away_2 := dk_seg dksX0_away_1 23 rfl rfl
theorem dksX0_away_3 : cX0_away.data.toList.drop 70 = dktX0_away_3 := dk_seg dksX0_away_2 24 rfl rfl
theorem dksX0_away_4 : cX0_away.data.toList.drop 94 = dktX0_away_4 := dk_seg dksX0_away_3 24 rfl rfl
theorem dksX0_away_5 : cX0_away.data.toList.drop 118 = dktX0_away_5 := dk_seg dksX0_away_4 24 rfl rfl
theorem dX0_away_0 : decode cX0_away 0 = .ok (.aload_n 0, 1) := dk_42 (dk_at dksX0_away_0 0 rfl rfl)
theorem dX0_away_1 : decode cX0_away 1 = .ok (.getfield 36, 3) := dk_180 0 36 (dk_at dksX0_away_0 1 rfl rfl)
theorem dX0_away_4 : decode cX0_away 4 = .ok (.iload_n 1, 1) := dk_27 (dk_at dksX0_away_0 4 rfl rfl)
theorem dX0_away_5 : decode cX0_away 5 = .ok (.invokevirtual 157, 3) := dk_182 0 157 (dk_at dksX0_away_0 5 rfl rfl)
theorem dX0_away_8 : decode cX0_away 8 = .ok (.ifCond .eq 12, 3) := dk_153 0 12 (dk_at dksX0_away_0 8 rfl rfl)
theorem dX0_away_11 : decode cX0_away 11 = .ok (.iload_n 2, 1) := dk_28 (dk_at dksX0_away_0 11 rfl rfl)
theorem dX0_away_12 : decode cX0_away 12 = .ok (.iconst 0, 1) := dk_3 (dk_at dksX0_away_0 12 rfl rfl)
theorem dX0_away_13 : decode cX0_away 13 = .ok (.iconst 1, 1) := dk_4 (dk_at dksX0_away_0 13 rfl rfl)
theorem dX0_away_14 : decode cX0_away 14 = .ok (.invokestatic 3, 3) := dk_184 0 3 (dk_at dksX0_away_0 14 rfl rfl)
theorem dX0_away_17 : decode cX0_away 17 = .ok (.ifCond .ne 10, 3) := dk_154 0 10 (dk_at dksX0_away_0 17 rfl rfl)
theorem dX0_away_20 : decode cX0_away 20 = .ok (.aload_n 0, 1) := dk_42 (dk_at dksX0_away_0 20 rfl rfl)
theorem dX0_away_21 : decode cX0_away 21 = .ok (.bipush (-2), 2) := dk_16 254 (dk_at dksX0_away_0 21 rfl rfl)
theorem dX0_away_23 : decode cX0_away 23 = .ok (.invokevirtual 105, 3) := dk_182 0 105 (dk_at dksX0_away_1 0 rfl rfl)
theorem dX0_away_26 : decode cX0_away 26 = .ok (.ireturn, 1) := dk_172 (dk_at dksX0_away_1 3 rfl rfl)
theorem dX0_away_27 : decode cX0_away 27 = .ok (.iconst (-1), 1) := dk_2 (dk_at dksX0_away_1 4 rfl rfl)
theorem dX0_away_28 : decode cX0_away 28 = .ok (.istore_n 3, 1) := dk_62 (dk_at dksX0_away_1 5 rfl rfl)
theorem dX0_away_29 : decode cX0_away 29 = .ok (.iconst 0, 1) := dk_3 (dk_at dksX0_away_1 6 rfl rfl)
theorem dX0_away_30 : decode cX0_away 30 = .ok (.istore 4, 2) := dk_54 4 (dk_at dksX0_away_1 7 rfl rfl)
theorem dX0_away_32 : decode cX0_away 32 = .ok (.iload 4, 2) := dk_21 4 (dk_at dksX0_away_1 9 rfl rfl)
theorem dX0_away_34 : decode cX0_away 34 = .ok (.aload_n 0, 1) := dk_42 (dk_at dksX0_away_1 11 rfl rfl)
theorem dX0_away_35 : decode cX0_away 35 = .ok (.getfield 36, 3) := dk_180 0 36 (dk_at dksX0_away_1 12 rfl rfl)
theorem dX0_away_38 : decode cX0_away 38 = .ok (.invokevirtual 80, 3) := dk_182 0 80 (dk_at dksX0_away_1 15 rfl rfl)
theorem dX0_away_41 : decode cX0_away 41 = .ok (.if_icmp .gt 70, 3) := dk_163 0 70 (dk_at dksX0_away_1 18 rfl rfl)
theorem dX0_away_44 : decode cX0_away 44 = .ok (.iload_n 3, 1) := dk_29 (dk_at dksX0_away_1 21 rfl rfl)
theorem dX0_away_45 : decode cX0_away 45 = .ok (.iconst (-1), 1) := dk_2 (dk_at dksX0_away_1 22 rfl rfl)
theorem dX0_away_46 : decode cX0_away 46 = .ok (.if_icmp .eq 15, 3) := dk_159 0 15 (dk_at dksX0_away_2 0 rfl rfl)
theorem dX0_away_49 : decode cX0_away 49 = .ok (.iload 4, 2) := dk_21 4 (dk_at dksX0_away_2 3 rfl rfl)
theorem dX0_away_51 : decode cX0_away 51 = .ok (.invokestatic 259, 3) := dk_184 1 3 (dk_at dksX0_away_2 5 rfl rfl)
theorem dX0_away_54 : decode cX0_away 54 = .ok (.iload_n 3, 1) := dk_29 (dk_at dksX0_away_2 8 rfl rfl)
theorem dX0_away_55 : decode cX0_away 55 = .ok (.invokestatic 259, 3) := dk_184 1 3 (dk_at dksX0_away_2 9 rfl rfl)
theorem dX0_away_58 : decode cX0_away 58 = .ok (.if_icmp .ge 7, 3) := dk_162 0 7 (dk_at dksX0_away_2 12 rfl rfl)
theorem dX0_away_61 : decode cX0_away 61 = .ok (.iconst 1, 1) := dk_4 (dk_at dksX0_away_2 15 rfl rfl)
theorem dX0_away_62 : decode cX0_away 62 = .ok (.goto 4, 3) := dk_167 0 4 (dk_at dksX0_away_2 16 rfl rfl)
theorem dX0_away_65 : decode cX0_away 65 = .ok (.iconst 0, 1) := dk_3 (dk_at dksX0_away_2 19 rfl rfl)
theorem dX0_away_66 : decode cX0_away 66 = .ok (.istore 5, 2) := dk_54 5 (dk_at dksX0_away_2 20 rfl rfl)
theorem dX0_away_68 : decode cX0_away 68 = .ok (.iload 5, 2) := dk_21 5 (dk_at dksX0_away_2 22 rfl rfl)
theorem dX0_away_70 : decode cX0_away 70 = .ok (.ifCond .eq 35, 3) := dk_153 0 35 (dk_at dksX0_away_3 0 rfl rfl)
theorem dX0_away_73 : decode cX0_away 73 = .ok (.iload 4, 2) := dk_21 4 (dk_at dksX0_away_3 3 rfl rfl)
theorem dX0_away_75 : decode cX0_away 75 = .ok (.iload_n 1, 1) := dk_27 (dk_at dksX0_away_3 5 rfl rfl)
theorem dX0_away_76 : decode cX0_away 76 = .ok (.invokestatic 202, 3) := dk_184 0 202 (dk_at dksX0_away_3 6 rfl rfl)
theorem dX0_away_79 : decode cX0_away 79 = .ok (.ifCond .ne 26, 3) := dk_154 0 26 (dk_at dksX0_away_3 9 rfl rfl)
theorem dX0_away_82 : decode cX0_away 82 = .ok (.aload_n 0, 1) := dk_42 (dk_at dksX0_away_3 12 rfl rfl)
theorem dX0_away_83 : decode cX0_away 83 = .ok (.aload_n 0, 1) := dk_42 (dk_at dksX0_away_3 13 rfl rfl)
theorem dX0_away_84 : decode cX0_away 84 = .ok (.getfield 36, 3) := dk_180 0 36 (dk_at dksX0_away_3 14 rfl rfl)
theorem dX0_away_87 : decode cX0_away 87 = .ok (.invokevirtual 80, 3) := dk_182 0 80 (dk_at dksX0_away_3 17 rfl rfl)
theorem dX0_away_90 : decode cX0_away 90 = .ok (.iload 4, 2) := dk_21 4 (dk_at dksX0_away_3 20 rfl rfl)
theorem dX0_away_92 : decode cX0_away 92 = .ok (.iconst (-1), 1) := dk_2 (dk_at dksX0_away_3 22 rfl rfl)
theorem dX0_away_93 : decode cX0_away 93 = .ok (.ixor, 1) := dk_130 (dk_at dksX0_away_3 23 rfl rfl)
theorem dX0_away_94 : decode cX0_away 94 = .ok (.iand, 1) := dk_126 (dk_at dksX0_away_4 0 rfl rfl)
theorem dX0_away_95 : decode cX0_away 95 = .ok (.iload_n 1, 1) := dk_27 (dk_at dksX0_away_4 1 rfl rfl)
theorem dX0_away_96 : decode cX0_away 96 = .ok (.invokevirtual 277, 3) := dk_182 1 21 (dk_at dksX0_away_4 2 rfl rfl)
theorem dX0_away_99 : decode cX0_away 99 = .ok (.ifCond .eq 6, 3) := dk_153 0 6 (dk_at dksX0_away_4 5 rfl rfl)
theorem dX0_away_102 : decode cX0_away 102 = .ok (.iload 4, 2) := dk_21 4 (dk_at dksX0_away_4 8 rfl rfl)
theorem dX0_away_104 : decode cX0_away 104 = .ok (.istore_n 3, 1) := dk_62 (dk_at dksX0_away_4 10 rfl rfl)
theorem dX0_away_105 : decode cX0_away 105 = .ok (.iinc 4 1, 3) := dk_132 4 1 (dk_at dksX0_away_4 11 rfl rfl)
theorem dX0_away_108 : decode cX0_away 108 = .ok (.goto (-76), 3) := dk_167 255 180 (dk_at dksX0_away_4 14 rfl rfl)
theorem dX0_away_111 : decode cX0_away 111 = .ok (.iload_n 2, 1) := dk_28 (dk_at dksX0_away_4 17 rfl rfl)
theorem dX0_away_112 : decode cX0_away 112 = .ok (.iconst 1, 1) := dk_4 (dk_at dksX0_away_4 18 rfl rfl)
theorem dX0_away_113 : decode cX0_away 113 = .ok (.if_icmp .eq 8, 3) := dk_159 0 8 (dk_at dksX0_away_4 19 rfl rfl)
theorem dX0_away_116 : decode cX0_away 116 = .ok (.iload_n 3, 1) := dk_29 (dk_at dksX0_away_4 22 rfl rfl)
theorem dX0_away_117 : decode cX0_away 117 = .ok (.iconst (-1), 1) := dk_2 (dk_at dksX0_away_4 23 rfl rfl)
theorem dX0_away_118 : decode cX0_away 118 = .ok (.if_icmp .ne 7, 3) := dk_160 0 7 (dk_at dksX0_away_5 0 rfl rfl)
theorem dX0_away_121 : decode cX0_away 121 = .ok (.iload_n 3, 1) := dk_29 (dk_at dksX0_away_5 3 rfl rfl)
theorem dX0_away_122 : decode cX0_away 122 = .ok (.goto 7, 3) := dk_167 0 7 (dk_at dksX0_away_5 4 rfl rfl)
theorem dX0_away_125 : decode cX0_away 125 = .ok (.iload_n 3, 1) := dk_29 (dk_at dksX0_away_5 7 rfl rfl)
theorem dX0_away_126 : decode cX0_away 126 = .ok (.invokestatic 259, 3) := dk_184 1 3 (dk_at dksX0_away_5 8 rfl rfl)
theorem dX0_away_129 : decode cX0_away 129 = .ok (.ireturn, 1) := dk_172 (dk_at dksX0_away_5 11 rfl rfl)
abbrev cX0_isGlad : ByteArray := prog_1_method_42_code
def yX0_isGlad : MethodName := ⟨RX0, "isGlad", "(II)Z"⟩
def dkwX0_isGlad_0 : List UInt8 := [42, 180, 0, 53, 42, 180, 0, 36, 27, 182, 0, 164, 180, 1, 11, 28, 184, 0, 202, 172]
abbrev dktX0_isGlad_0 : List UInt8 := dkwX0_isGlad_0 ++ []
theorem dksX0_isGlad_0 : cX0_isGlad.data.toList.drop 0 = dktX0_isGlad_0 := by decide +kernel
theorem dX0_isGlad_0 : decode cX0_isGlad 0 = .ok (.aload_n 0, 1) := dk_42 (dk_at dksX0_isGlad_0 0 rfl rfl)
theorem dX0_isGlad_1 : decode cX0_isGlad 1 = .ok (.getfield 53, 3) := dk_180 0 53 (dk_at dksX0_isGlad_0 1 rfl rfl)
theorem dX0_isGlad_4 : decode cX0_isGlad 4 = .ok (.aload_n 0, 1) := dk_42 (dk_at dksX0_isGlad_0 4 rfl rfl)
theorem dX0_isGlad_5 : decode cX0_isGlad 5 = .ok (.getfield 36, 3) := dk_180 0 36 (dk_at dksX0_isGlad_0 5 rfl rfl)
theorem dX0_isGlad_8 : decode cX0_isGlad 8 = .ok (.iload_n 1, 1) := dk_27 (dk_at dksX0_isGlad_0 8 rfl rfl)
theorem dX0_isGlad_9 : decode cX0_isGlad 9 = .ok (.invokevirtual 164, 3) := dk_182 0 164 (dk_at dksX0_isGlad_0 9 rfl rfl)
theorem dX0_isGlad_12 : decode cX0_isGlad 12 = .ok (.getfield 267, 3) := dk_180 1 11 (dk_at dksX0_isGlad_0 12 rfl rfl)
theorem dX0_isGlad_15 : decode cX0_isGlad 15 = .ok (.iload_n 2, 1) := dk_28 (dk_at dksX0_isGlad_0 15 rfl rfl)
theorem dX0_isGlad_16 : decode cX0_isGlad 16 = .ok (.invokestatic 202, 3) := dk_184 0 202 (dk_at dksX0_isGlad_0 16 rfl rfl)
theorem dX0_isGlad_19 : decode cX0_isGlad 19 = .ok (.ireturn, 1) := dk_172 (dk_at dksX0_isGlad_0 19 rfl rfl)
abbrev cX0_crowd : ByteArray := prog_1_method_44_code
def yX0_crowd : MethodName := ⟨RX0, "crowd", "(II)I"⟩
def dkwX0_crowd_5 : List UInt8 := [167, 0, 4, 29, 172]
abbrev dktX0_crowd_5 : List UInt8 := dkwX0_crowd_5 ++ []
def dkwX0_crowd_4 : List UInt8 := [29, 62, 21, 4, 21, 6, 184, 1, 24, 54, 4, 132, 5, 1, 167, 255, 187, 28, 154, 0, 8, 21, 4]
abbrev dktX0_crowd_4 : List UInt8 := dkwX0_crowd_4 ++ dktX0_crowd_5
def dkwX0_crowd_3 : List UInt8 := [182, 0, 164, 182, 0, 253, 167, 0, 4, 2, 54, 6, 21, 6, 21, 4, 164, 0, 8, 21, 5, 167, 0, 4]
abbrev dktX0_crowd_3 : List UInt8 := dkwX0_crowd_3 ++ dktX0_crowd_4
def dkwX0_crowd_2 : List UInt8 := [163, 0, 63, 21, 5, 184, 1, 3, 27, 160, 0, 22, 42, 180, 0, 53, 42, 180, 0, 36, 21, 5]
abbrev dktX0_crowd_2 : List UInt8 := dkwX0_crowd_2 ++ dktX0_crowd_3
def dkwX0_crowd_1 : List UInt8 := [42, 16, 254, 182, 0, 105, 172, 3, 62, 2, 54, 4, 3, 54, 5, 21, 5, 42, 180, 0, 36, 182, 0, 80]
abbrev dktX0_crowd_1 : List UInt8 := dkwX0_crowd_1 ++ dktX0_crowd_2
def dkwX0_crowd_0 : List UInt8 := [27, 3, 42, 180, 0, 36, 180, 0, 192, 184, 0, 3, 153, 0, 12, 28, 3, 4, 184, 0, 3, 154, 0, 10]
abbrev dktX0_crowd_0 : List UInt8 := dkwX0_crowd_0 ++ dktX0_crowd_1
theorem dksX0_crowd_0 : cX0_crowd.data.toList.drop 0 = dktX0_crowd_0 := by decide +kernel
theorem dksX0_crowd_1 : cX0_crowd.data.toList.drop 24 = dktX0_crowd_1 := dk_seg dksX0_crowd_0 24 rfl rfl
theorem dksX0_crowd_2 : cX0_crowd.data.toList.drop 48 = dktX0_crowd_2 := dk_seg dksX0_crowd_1 24 rfl rfl
theorem dksX0_crowd_3 : cX0_crowd.data.toList.drop 70 = dktX0_crowd_3 := dk_seg dksX0_crowd_2 22 rfl rfl
theorem dksX0_crowd_4 : cX0_crowd.data.toList.drop 94 = dktX0_crowd_4 := dk_seg dksX0_crowd_3 24 rfl rfl
theorem dksX0_crowd_5 : cX0_crowd.data.toList.drop 117 = dktX0_crowd_5 := dk_seg dksX0_crowd_4 23 rfl rfl
theorem dX0_crowd_0 : decode cX0_crowd 0 = .ok (.iload_n 1, 1) := dk_27 (dk_at dksX0_crowd_0 0 rfl rfl)
theorem dX0_crowd_1 : decode cX0_crowd 1 = .ok (.iconst 0, 1) := dk_3 (dk_at dksX0_crowd_0 1 rfl rfl)
theorem dX0_crowd_2 : decode cX0_crowd 2 = .ok (.aload_n 0, 1) := dk_42 (dk_at dksX0_crowd_0 2 rfl rfl)
theorem dX0_crowd_3 : decode cX0_crowd 3 = .ok (.getfield 36, 3) := dk_180 0 36 (dk_at dksX0_crowd_0 3 rfl rfl)
theorem dX0_crowd_6 : decode cX0_crowd 6 = .ok (.getfield 192, 3) := dk_180 0 192 (dk_at dksX0_crowd_0 6 rfl rfl)
theorem dX0_crowd_9 : decode cX0_crowd 9 = .ok (.invokestatic 3, 3) := dk_184 0 3 (dk_at dksX0_crowd_0 9 rfl rfl)
theorem dX0_crowd_12 : decode cX0_crowd 12 = .ok (.ifCond .eq 12, 3) := dk_153 0 12 (dk_at dksX0_crowd_0 12 rfl rfl)
theorem dX0_crowd_15 : decode cX0_crowd 15 = .ok (.iload_n 2, 1) := dk_28 (dk_at dksX0_crowd_0 15 rfl rfl)
theorem dX0_crowd_16 : decode cX0_crowd 16 = .ok (.iconst 0, 1) := dk_3 (dk_at dksX0_crowd_0 16 rfl rfl)
theorem dX0_crowd_17 : decode cX0_crowd 17 = .ok (.iconst 1, 1) := dk_4 (dk_at dksX0_crowd_0 17 rfl rfl)
theorem dX0_crowd_18 : decode cX0_crowd 18 = .ok (.invokestatic 3, 3) := dk_184 0 3 (dk_at dksX0_crowd_0 18 rfl rfl)
theorem dX0_crowd_21 : decode cX0_crowd 21 = .ok (.ifCond .ne 10, 3) := dk_154 0 10 (dk_at dksX0_crowd_0 21 rfl rfl)
theorem dX0_crowd_24 : decode cX0_crowd 24 = .ok (.aload_n 0, 1) := dk_42 (dk_at dksX0_crowd_1 0 rfl rfl)
theorem dX0_crowd_25 : decode cX0_crowd 25 = .ok (.bipush (-2), 2) := dk_16 254 (dk_at dksX0_crowd_1 1 rfl rfl)
theorem dX0_crowd_27 : decode cX0_crowd 27 = .ok (.invokevirtual 105, 3) := dk_182 0 105 (dk_at dksX0_crowd_1 3 rfl rfl)
theorem dX0_crowd_30 : decode cX0_crowd 30 = .ok (.ireturn, 1) := dk_172 (dk_at dksX0_crowd_1 6 rfl rfl)
theorem dX0_crowd_31 : decode cX0_crowd 31 = .ok (.iconst 0, 1) := dk_3 (dk_at dksX0_crowd_1 7 rfl rfl)
theorem dX0_crowd_32 : decode cX0_crowd 32 = .ok (.istore_n 3, 1) := dk_62 (dk_at dksX0_crowd_1 8 rfl rfl)
theorem dX0_crowd_33 : decode cX0_crowd 33 = .ok (.iconst (-1), 1) := dk_2 (dk_at dksX0_crowd_1 9 rfl rfl)
theorem dX0_crowd_34 : decode cX0_crowd 34 = .ok (.istore 4, 2) := dk_54 4 (dk_at dksX0_crowd_1 10 rfl rfl)
theorem dX0_crowd_36 : decode cX0_crowd 36 = .ok (.iconst 0, 1) := dk_3 (dk_at dksX0_crowd_1 12 rfl rfl)
theorem dX0_crowd_37 : decode cX0_crowd 37 = .ok (.istore 5, 2) := dk_54 5 (dk_at dksX0_crowd_1 13 rfl rfl)
theorem dX0_crowd_39 : decode cX0_crowd 39 = .ok (.iload 5, 2) := dk_21 5 (dk_at dksX0_crowd_1 15 rfl rfl)
theorem dX0_crowd_41 : decode cX0_crowd 41 = .ok (.aload_n 0, 1) := dk_42 (dk_at dksX0_crowd_1 17 rfl rfl)
theorem dX0_crowd_42 : decode cX0_crowd 42 = .ok (.getfield 36, 3) := dk_180 0 36 (dk_at dksX0_crowd_1 18 rfl rfl)
theorem dX0_crowd_45 : decode cX0_crowd 45 = .ok (.invokevirtual 80, 3) := dk_182 0 80 (dk_at dksX0_crowd_1 21 rfl rfl)
theorem dX0_crowd_48 : decode cX0_crowd 48 = .ok (.if_icmp .gt 63, 3) := dk_163 0 63 (dk_at dksX0_crowd_2 0 rfl rfl)
theorem dX0_crowd_51 : decode cX0_crowd 51 = .ok (.iload 5, 2) := dk_21 5 (dk_at dksX0_crowd_2 3 rfl rfl)
theorem dX0_crowd_53 : decode cX0_crowd 53 = .ok (.invokestatic 259, 3) := dk_184 1 3 (dk_at dksX0_crowd_2 5 rfl rfl)
theorem dX0_crowd_56 : decode cX0_crowd 56 = .ok (.iload_n 1, 1) := dk_27 (dk_at dksX0_crowd_2 8 rfl rfl)
theorem dX0_crowd_57 : decode cX0_crowd 57 = .ok (.if_icmp .ne 22, 3) := dk_160 0 22 (dk_at dksX0_crowd_2 9 rfl rfl)
theorem dX0_crowd_60 : decode cX0_crowd 60 = .ok (.aload_n 0, 1) := dk_42 (dk_at dksX0_crowd_2 12 rfl rfl)
theorem dX0_crowd_61 : decode cX0_crowd 61 = .ok (.getfield 53, 3) := dk_180 0 53 (dk_at dksX0_crowd_2 13 rfl rfl)
theorem dX0_crowd_64 : decode cX0_crowd 64 = .ok (.aload_n 0, 1) := dk_42 (dk_at dksX0_crowd_2 16 rfl rfl)
theorem dX0_crowd_65 : decode cX0_crowd 65 = .ok (.getfield 36, 3) := dk_180 0 36 (dk_at dksX0_crowd_2 17 rfl rfl)
theorem dX0_crowd_68 : decode cX0_crowd 68 = .ok (.iload 5, 2) := dk_21 5 (dk_at dksX0_crowd_2 20 rfl rfl)
theorem dX0_crowd_70 : decode cX0_crowd 70 = .ok (.invokevirtual 164, 3) := dk_182 0 164 (dk_at dksX0_crowd_3 0 rfl rfl)
theorem dX0_crowd_73 : decode cX0_crowd 73 = .ok (.invokevirtual 253, 3) := dk_182 0 253 (dk_at dksX0_crowd_3 3 rfl rfl)
theorem dX0_crowd_76 : decode cX0_crowd 76 = .ok (.goto 4, 3) := dk_167 0 4 (dk_at dksX0_crowd_3 6 rfl rfl)
theorem dX0_crowd_79 : decode cX0_crowd 79 = .ok (.iconst (-1), 1) := dk_2 (dk_at dksX0_crowd_3 9 rfl rfl)
theorem dX0_crowd_80 : decode cX0_crowd 80 = .ok (.istore 6, 2) := dk_54 6 (dk_at dksX0_crowd_3 10 rfl rfl)
theorem dX0_crowd_82 : decode cX0_crowd 82 = .ok (.iload 6, 2) := dk_21 6 (dk_at dksX0_crowd_3 12 rfl rfl)
theorem dX0_crowd_84 : decode cX0_crowd 84 = .ok (.iload 4, 2) := dk_21 4 (dk_at dksX0_crowd_3 14 rfl rfl)
theorem dX0_crowd_86 : decode cX0_crowd 86 = .ok (.if_icmp .le 8, 3) := dk_164 0 8 (dk_at dksX0_crowd_3 16 rfl rfl)
theorem dX0_crowd_89 : decode cX0_crowd 89 = .ok (.iload 5, 2) := dk_21 5 (dk_at dksX0_crowd_3 19 rfl rfl)
theorem dX0_crowd_91 : decode cX0_crowd 91 = .ok (.goto 4, 3) := dk_167 0 4 (dk_at dksX0_crowd_3 21 rfl rfl)
theorem dX0_crowd_94 : decode cX0_crowd 94 = .ok (.iload_n 3, 1) := dk_29 (dk_at dksX0_crowd_4 0 rfl rfl)
theorem dX0_crowd_95 : decode cX0_crowd 95 = .ok (.istore_n 3, 1) := dk_62 (dk_at dksX0_crowd_4 1 rfl rfl)
theorem dX0_crowd_96 : decode cX0_crowd 96 = .ok (.iload 4, 2) := dk_21 4 (dk_at dksX0_crowd_4 2 rfl rfl)
theorem dX0_crowd_98 : decode cX0_crowd 98 = .ok (.iload 6, 2) := dk_21 6 (dk_at dksX0_crowd_4 4 rfl rfl)
theorem dX0_crowd_100 : decode cX0_crowd 100 = .ok (.invokestatic 280, 3) := dk_184 1 24 (dk_at dksX0_crowd_4 6 rfl rfl)
theorem dX0_crowd_103 : decode cX0_crowd 103 = .ok (.istore 4, 2) := dk_54 4 (dk_at dksX0_crowd_4 9 rfl rfl)
theorem dX0_crowd_105 : decode cX0_crowd 105 = .ok (.iinc 5 1, 3) := dk_132 5 1 (dk_at dksX0_crowd_4 11 rfl rfl)
theorem dX0_crowd_108 : decode cX0_crowd 108 = .ok (.goto (-69), 3) := dk_167 255 187 (dk_at dksX0_crowd_4 14 rfl rfl)
theorem dX0_crowd_111 : decode cX0_crowd 111 = .ok (.iload_n 2, 1) := dk_28 (dk_at dksX0_crowd_4 17 rfl rfl)
theorem dX0_crowd_112 : decode cX0_crowd 112 = .ok (.ifCond .ne 8, 3) := dk_154 0 8 (dk_at dksX0_crowd_4 18 rfl rfl)
theorem dX0_crowd_115 : decode cX0_crowd 115 = .ok (.iload 4, 2) := dk_21 4 (dk_at dksX0_crowd_4 21 rfl rfl)
theorem dX0_crowd_117 : decode cX0_crowd 117 = .ok (.goto 4, 3) := dk_167 0 4 (dk_at dksX0_crowd_5 0 rfl rfl)
theorem dX0_crowd_120 : decode cX0_crowd 120 = .ok (.iload_n 3, 1) := dk_29 (dk_at dksX0_crowd_5 3 rfl rfl)
theorem dX0_crowd_121 : decode cX0_crowd 121 = .ok (.ireturn, 1) := dk_172 (dk_at dksX0_crowd_5 4 rfl rfl)
abbrev cX0_without : ByteArray := prog_1_method_45_code
def yX0_without : MethodName := ⟨RX0, "without", "(I)I"⟩
def dkwX0_without_2 : List UInt8 := [172]
abbrev dktX0_without_2 : List UInt8 := dkwX0_without_2 ++ []
def dkwX0_without_1 : List UInt8 := [182, 0, 80, 4, 27, 120, 2, 130, 126, 182, 0, 164, 182, 0, 253, 167, 0, 9, 42, 16, 254, 182, 0, 105]
abbrev dktX0_without_1 : List UInt8 := dkwX0_without_1 ++ dktX0_without_2
def dkwX0_without_0 : List UInt8 := [42, 180, 0, 36, 27, 182, 0, 157, 153, 0, 33, 42, 180, 0, 53, 42, 180, 0, 36, 42, 180, 0, 36]
abbrev dktX0_without_0 : List UInt8 := dkwX0_without_0 ++ dktX0_without_1
theorem dksX0_without_0 : cX0_without.data.toList.drop 0 = dktX0_without_0 := by decide +kernel
theorem dksX0_without_1 : cX0_without.data.toList.drop 23 = dktX0_without_1 := dk_seg dksX0_without_0 23 rfl rfl
theorem dksX0_without_2 : cX0_without.data.toList.drop 47 = dktX0_without_2 := dk_seg dksX0_without_1 24 rfl rfl
theorem dX0_without_0 : decode cX0_without 0 = .ok (.aload_n 0, 1) := dk_42 (dk_at dksX0_without_0 0 rfl rfl)
theorem dX0_without_1 : decode cX0_without 1 = .ok (.getfield 36, 3) := dk_180 0 36 (dk_at dksX0_without_0 1 rfl rfl)
theorem dX0_without_4 : decode cX0_without 4 = .ok (.iload_n 1, 1) := dk_27 (dk_at dksX0_without_0 4 rfl rfl)
theorem dX0_without_5 : decode cX0_without 5 = .ok (.invokevirtual 157, 3) := dk_182 0 157 (dk_at dksX0_without_0 5 rfl rfl)
theorem dX0_without_8 : decode cX0_without 8 = .ok (.ifCond .eq 33, 3) := dk_153 0 33 (dk_at dksX0_without_0 8 rfl rfl)
theorem dX0_without_11 : decode cX0_without 11 = .ok (.aload_n 0, 1) := dk_42 (dk_at dksX0_without_0 11 rfl rfl)
theorem dX0_without_12 : decode cX0_without 12 = .ok (.getfield 53, 3) := dk_180 0 53 (dk_at dksX0_without_0 12 rfl rfl)
theorem dX0_without_15 : decode cX0_without 15 = .ok (.aload_n 0, 1) := dk_42 (dk_at dksX0_without_0 15 rfl rfl)
theorem dX0_without_16 : decode cX0_without 16 = .ok (.getfield 36, 3) := dk_180 0 36 (dk_at dksX0_without_0 16 rfl rfl)
theorem dX0_without_19 : decode cX0_without 19 = .ok (.aload_n 0, 1) := dk_42 (dk_at dksX0_without_0 19 rfl rfl)
theorem dX0_without_20 : decode cX0_without 20 = .ok (.getfield 36, 3) := dk_180 0 36 (dk_at dksX0_without_0 20 rfl rfl)
theorem dX0_without_23 : decode cX0_without 23 = .ok (.invokevirtual 80, 3) := dk_182 0 80 (dk_at dksX0_without_1 0 rfl rfl)
theorem dX0_without_26 : decode cX0_without 26 = .ok (.iconst 1, 1) := dk_4 (dk_at dksX0_without_1 3 rfl rfl)
theorem dX0_without_27 : decode cX0_without 27 = .ok (.iload_n 1, 1) := dk_27 (dk_at dksX0_without_1 4 rfl rfl)
theorem dX0_without_28 : decode cX0_without 28 = .ok (.ishl, 1) := dk_120 (dk_at dksX0_without_1 5 rfl rfl)
theorem dX0_without_29 : decode cX0_without 29 = .ok (.iconst (-1), 1) := dk_2 (dk_at dksX0_without_1 6 rfl rfl)
theorem dX0_without_30 : decode cX0_without 30 = .ok (.ixor, 1) := dk_130 (dk_at dksX0_without_1 7 rfl rfl)
theorem dX0_without_31 : decode cX0_without 31 = .ok (.iand, 1) := dk_126 (dk_at dksX0_without_1 8 rfl rfl)
theorem dX0_without_32 : decode cX0_without 32 = .ok (.invokevirtual 164, 3) := dk_182 0 164 (dk_at dksX0_without_1 9 rfl rfl)
theorem dX0_without_35 : decode cX0_without 35 = .ok (.invokevirtual 253, 3) := dk_182 0 253 (dk_at dksX0_without_1 12 rfl rfl)
theorem dX0_without_38 : decode cX0_without 38 = .ok (.goto 9, 3) := dk_167 0 9 (dk_at dksX0_without_1 15 rfl rfl)
theorem dX0_without_41 : decode cX0_without 41 = .ok (.aload_n 0, 1) := dk_42 (dk_at dksX0_without_1 18 rfl rfl)
theorem dX0_without_42 : decode cX0_without 42 = .ok (.bipush (-2), 2) := dk_16 254 (dk_at dksX0_without_1 19 rfl rfl)
theorem dX0_without_44 : decode cX0_without 44 = .ok (.invokevirtual 105, 3) := dk_182 0 105 (dk_at dksX0_without_1 21 rfl rfl)
theorem dX0_without_47 : decode cX0_without 47 = .ok (.ireturn, 1) := dk_172 (dk_at dksX0_without_2 0 rfl rfl)
abbrev cX0_exchanged : ByteArray := prog_1_method_47_code
def yX0_exchanged : MethodName := ⟨RX0, "exchanged", "(II)I"⟩
def dkwX0_exchanged_2 : List UInt8 := [16, 254, 182, 0, 105, 172]
abbrev dktX0_exchanged_2 : List UInt8 := dkwX0_exchanged_2 ++ []
def dkwX0_exchanged_1 : List UInt8 := [159, 0, 7, 4, 167, 0, 4, 3, 62, 29, 153, 0, 12, 42, 27, 28, 182, 1, 31, 167, 0, 9, 42]
abbrev dktX0_exchanged_1 : List UInt8 := dkwX0_exchanged_1 ++ dktX0_exchanged_2
def dkwX0_exchanged_0 : List UInt8 := [42, 180, 0, 36, 27, 182, 0, 157, 153, 0, 23, 42, 180, 0, 36, 28, 182, 0, 157, 153, 0, 12, 27, 28]
abbrev dktX0_exchanged_0 : List UInt8 := dkwX0_exchanged_0 ++ dktX0_exchanged_1
theorem dksX0_exchanged_0 : cX0_exchanged.data.toList.drop 0 = dktX0_exchanged_0 := by decide +kernel
theorem dksX0_exchanged_1 : cX0_exchanged.data.toList.drop 24 = dktX0_exchanged_1 := dk_seg dksX0_exchanged_0 24 rfl rfl
theorem dksX0_exchanged_2 : cX0_exchanged.data.toList.drop 47 = dktX0_exchanged_2 := dk_seg dksX0_exchanged_1 23 rfl rfl
theorem dX0_exchanged_0 : decode cX0_exchanged 0 = .ok (.aload_n 0, 1) := dk_42 (dk_at dksX0_exchanged_0 0 rfl rfl)
theorem dX0_exchanged_1 : decode cX0_exchanged 1 = .ok (.getfield 36, 3) := dk_180 0 36 (dk_at dksX0_exchanged_0 1 rfl rfl)
theorem dX0_exchanged_4 : decode cX0_exchanged 4 = .ok (.iload_n 1, 1) := dk_27 (dk_at dksX0_exchanged_0 4 rfl rfl)
theorem dX0_exchanged_5 : decode cX0_exchanged 5 = .ok (.invokevirtual 157, 3) := dk_182 0 157 (dk_at dksX0_exchanged_0 5 rfl rfl)
theorem dX0_exchanged_8 : decode cX0_exchanged 8 = .ok (.ifCond .eq 23, 3) := dk_153 0 23 (dk_at dksX0_exchanged_0 8 rfl rfl)
theorem dX0_exchanged_11 : decode cX0_exchanged 11 = .ok (.aload_n 0, 1) := dk_42 (dk_at dksX0_exchanged_0 11 rfl rfl)
theorem dX0_exchanged_12 : decode cX0_exchanged 12 = .ok (.getfield 36, 3) := dk_180 0 36 (dk_at dksX0_exchanged_0 12 rfl rfl)
theorem dX0_exchanged_15 : decode cX0_exchanged 15 = .ok (.iload_n 2, 1) := dk_28 (dk_at dksX0_exchanged_0 15 rfl rfl)
theorem dX0_exchanged_16 : decode cX0_exchanged 16 = .ok (.invokevirtual 157, 3) := dk_182 0 157 (dk_at dksX0_exchanged_0 16 rfl rfl)
theorem dX0_exchanged_19 : decode cX0_exchanged 19 = .ok (.ifCond .eq 12, 3) := dk_153 0 12 (dk_at dksX0_exchanged_0 19 rfl rfl)
theorem dX0_exchanged_22 : decode cX0_exchanged 22 = .ok (.iload_n 1, 1) := dk_27 (dk_at dksX0_exchanged_0 22 rfl rfl)
theorem dX0_exchanged_23 : decode cX0_exchanged 23 = .ok (.iload_n 2, 1) := dk_28 (dk_at dksX0_exchanged_0 23 rfl rfl)
theorem dX0_exchanged_24 : decode cX0_exchanged 24 = .ok (.if_icmp .eq 7, 3) := dk_159 0 7 (dk_at dksX0_exchanged_1 0 rfl rfl)
theorem dX0_exchanged_27 : decode cX0_exchanged 27 = .ok (.iconst 1, 1) := dk_4 (dk_at dksX0_exchanged_1 3 rfl rfl)
theorem dX0_exchanged_28 : decode cX0_exchanged 28 = .ok (.goto 4, 3) := dk_167 0 4 (dk_at dksX0_exchanged_1 4 rfl rfl)
theorem dX0_exchanged_31 : decode cX0_exchanged 31 = .ok (.iconst 0, 1) := dk_3 (dk_at dksX0_exchanged_1 7 rfl rfl)
theorem dX0_exchanged_32 : decode cX0_exchanged 32 = .ok (.istore_n 3, 1) := dk_62 (dk_at dksX0_exchanged_1 8 rfl rfl)
theorem dX0_exchanged_33 : decode cX0_exchanged 33 = .ok (.iload_n 3, 1) := dk_29 (dk_at dksX0_exchanged_1 9 rfl rfl)
theorem dX0_exchanged_34 : decode cX0_exchanged 34 = .ok (.ifCond .eq 12, 3) := dk_153 0 12 (dk_at dksX0_exchanged_1 10 rfl rfl)
theorem dX0_exchanged_37 : decode cX0_exchanged 37 = .ok (.aload_n 0, 1) := dk_42 (dk_at dksX0_exchanged_1 13 rfl rfl)
theorem dX0_exchanged_38 : decode cX0_exchanged 38 = .ok (.iload_n 1, 1) := dk_27 (dk_at dksX0_exchanged_1 14 rfl rfl)
theorem dX0_exchanged_39 : decode cX0_exchanged 39 = .ok (.iload_n 2, 1) := dk_28 (dk_at dksX0_exchanged_1 15 rfl rfl)
theorem dX0_exchanged_40 : decode cX0_exchanged 40 = .ok (.invokevirtual 287, 3) := dk_182 1 31 (dk_at dksX0_exchanged_1 16 rfl rfl)
theorem dX0_exchanged_43 : decode cX0_exchanged 43 = .ok (.goto 9, 3) := dk_167 0 9 (dk_at dksX0_exchanged_1 19 rfl rfl)
theorem dX0_exchanged_46 : decode cX0_exchanged 46 = .ok (.aload_n 0, 1) := dk_42 (dk_at dksX0_exchanged_1 22 rfl rfl)
theorem dX0_exchanged_47 : decode cX0_exchanged 47 = .ok (.bipush (-2), 2) := dk_16 254 (dk_at dksX0_exchanged_2 0 rfl rfl)
theorem dX0_exchanged_49 : decode cX0_exchanged 49 = .ok (.invokevirtual 105, 3) := dk_182 0 105 (dk_at dksX0_exchanged_2 2 rfl rfl)
theorem dX0_exchanged_52 : decode cX0_exchanged 52 = .ok (.ireturn, 1) := dk_172 (dk_at dksX0_exchanged_2 5 rfl rfl)
abbrev cX0_gladWith : ByteArray := prog_1_method_46_code
def yX0_gladWith : MethodName := ⟨RX0, "gladWith", "(II)I"⟩
def dkwX0_gladWith_2 : List UInt8 := [182, 0, 253, 172]
abbrev dktX0_gladWith_2 : List UInt8 := dkwX0_gladWith_2 ++ []
def dkwX0_gladWith_1 : List UInt8 := [28, 42, 180, 0, 36, 180, 0, 171, 27, 46, 79, 42, 180, 0, 53, 45, 45, 182, 0, 80, 182, 0, 164]
abbrev dktX0_gladWith_1 : List UInt8 := dkwX0_gladWith_1 ++ dktX0_gladWith_2
def dkwX0_gladWith_0 : List UInt8 := [42, 182, 1, 29, 78, 45, 180, 0, 171, 27, 42, 180, 0, 36, 180, 0, 171, 28, 46, 79, 45, 180, 0, 171]
abbrev dktX0_gladWith_0 : List UInt8 := dkwX0_gladWith_0 ++ dktX0_gladWith_1
theorem dksX0_gladWith_0 : cX0_gladWith.data.toList.drop 0 = dktX0_gladWith_0 := by decide +kernel
theorem dksX0_gladWith_1 : cX0_gladWith.data.toList.drop 24 = dktX0_gladWith_1 := dk_seg dksX0_gladWith_0 24 rfl rfl
theorem dksX0_gladWith_2 : cX0_gladWith.data.toList.drop 47 = dktX0_gladWith_2 := dk_seg dksX0_gladWith_1 23 rfl rfl
theorem dX0_gladWith_0 : decode cX0_gladWith 0 = .ok (.aload_n 0, 1) := dk_42 (dk_at dksX0_gladWith_0 0 rfl rfl)
theorem dX0_gladWith_1 : decode cX0_gladWith 1 = .ok (.invokevirtual 285, 3) := dk_182 1 29 (dk_at dksX0_gladWith_0 1 rfl rfl)
theorem dX0_gladWith_4 : decode cX0_gladWith 4 = .ok (.astore_n 3, 1) := dk_78 (dk_at dksX0_gladWith_0 4 rfl rfl)
theorem dX0_gladWith_5 : decode cX0_gladWith 5 = .ok (.aload_n 3, 1) := dk_45 (dk_at dksX0_gladWith_0 5 rfl rfl)
theorem dX0_gladWith_6 : decode cX0_gladWith 6 = .ok (.getfield 171, 3) := dk_180 0 171 (dk_at dksX0_gladWith_0 6 rfl rfl)
theorem dX0_gladWith_9 : decode cX0_gladWith 9 = .ok (.iload_n 1, 1) := dk_27 (dk_at dksX0_gladWith_0 9 rfl rfl)
theorem dX0_gladWith_10 : decode cX0_gladWith 10 = .ok (.aload_n 0, 1) := dk_42 (dk_at dksX0_gladWith_0 10 rfl rfl)
theorem dX0_gladWith_11 : decode cX0_gladWith 11 = .ok (.getfield 36, 3) := dk_180 0 36 (dk_at dksX0_gladWith_0 11 rfl rfl)
theorem dX0_gladWith_14 : decode cX0_gladWith 14 = .ok (.getfield 171, 3) := dk_180 0 171 (dk_at dksX0_gladWith_0 14 rfl rfl)
theorem dX0_gladWith_17 : decode cX0_gladWith 17 = .ok (.iload_n 2, 1) := dk_28 (dk_at dksX0_gladWith_0 17 rfl rfl)
theorem dX0_gladWith_18 : decode cX0_gladWith 18 = .ok (.iaload, 1) := dk_46 (dk_at dksX0_gladWith_0 18 rfl rfl)
theorem dX0_gladWith_19 : decode cX0_gladWith 19 = .ok (.iastore, 1) := dk_79 (dk_at dksX0_gladWith_0 19 rfl rfl)
theorem dX0_gladWith_20 : decode cX0_gladWith 20 = .ok (.aload_n 3, 1) := dk_45 (dk_at dksX0_gladWith_0 20 rfl rfl)
theorem dX0_gladWith_21 : decode cX0_gladWith 21 = .ok (.getfield 171, 3) := dk_180 0 171 (dk_at dksX0_gladWith_0 21 rfl rfl)
theorem dX0_gladWith_24 : decode cX0_gladWith 24 = .ok (.iload_n 2, 1) := dk_28 (dk_at dksX0_gladWith_1 0 rfl rfl)
theorem dX0_gladWith_25 : decode cX0_gladWith 25 = .ok (.aload_n 0, 1) := dk_42 (dk_at dksX0_gladWith_1 1 rfl rfl)
theorem dX0_gladWith_26 : decode cX0_gladWith 26 = .ok (.getfield 36, 3) := dk_180 0 36 (dk_at dksX0_gladWith_1 2 rfl rfl)
theorem dX0_gladWith_29 : decode cX0_gladWith 29 = .ok (.getfield 171, 3) := dk_180 0 171 (dk_at dksX0_gladWith_1 5 rfl rfl)
theorem dX0_gladWith_32 : decode cX0_gladWith 32 = .ok (.iload_n 1, 1) := dk_27 (dk_at dksX0_gladWith_1 8 rfl rfl)
theorem dX0_gladWith_33 : decode cX0_gladWith 33 = .ok (.iaload, 1) := dk_46 (dk_at dksX0_gladWith_1 9 rfl rfl)
theorem dX0_gladWith_34 : decode cX0_gladWith 34 = .ok (.iastore, 1) := dk_79 (dk_at dksX0_gladWith_1 10 rfl rfl)
theorem dX0_gladWith_35 : decode cX0_gladWith 35 = .ok (.aload_n 0, 1) := dk_42 (dk_at dksX0_gladWith_1 11 rfl rfl)
theorem dX0_gladWith_36 : decode cX0_gladWith 36 = .ok (.getfield 53, 3) := dk_180 0 53 (dk_at dksX0_gladWith_1 12 rfl rfl)
theorem dX0_gladWith_39 : decode cX0_gladWith 39 = .ok (.aload_n 3, 1) := dk_45 (dk_at dksX0_gladWith_1 15 rfl rfl)
theorem dX0_gladWith_40 : decode cX0_gladWith 40 = .ok (.aload_n 3, 1) := dk_45 (dk_at dksX0_gladWith_1 16 rfl rfl)
theorem dX0_gladWith_41 : decode cX0_gladWith 41 = .ok (.invokevirtual 80, 3) := dk_182 0 80 (dk_at dksX0_gladWith_1 17 rfl rfl)
theorem dX0_gladWith_44 : decode cX0_gladWith 44 = .ok (.invokevirtual 164, 3) := dk_182 0 164 (dk_at dksX0_gladWith_1 20 rfl rfl)
theorem dX0_gladWith_47 : decode cX0_gladWith 47 = .ok (.invokevirtual 253, 3) := dk_182 0 253 (dk_at dksX0_gladWith_2 0 rfl rfl)
theorem dX0_gladWith_50 : decode cX0_gladWith 50 = .ok (.ireturn, 1) := dk_172 (dk_at dksX0_gladWith_2 3 rfl rfl)
abbrev cX0_tried : ByteArray := prog_1_method_10_code
def yX0_tried : MethodName := ⟨RX0, "tried", "()LSeenInOrderOfAge$Window;"⟩
def dkwX0_tried_0 : List UInt8 := [42, 180, 0, 40, 42, 180, 0, 36, 182, 0, 84, 176]
abbrev dktX0_tried_0 : List UInt8 := dkwX0_tried_0 ++ []
theorem dksX0_tried_0 : cX0_tried.data.toList.drop 0 = dktX0_tried_0 := by decide +kernel
theorem dX0_tried_0 : decode cX0_tried 0 = .ok (.aload_n 0, 1) := dk_42 (dk_at dksX0_tried_0 0 rfl rfl)
theorem dX0_tried_1 : decode cX0_tried 1 = .ok (.getfield 40, 3) := dk_180 0 40 (dk_at dksX0_tried_0 1 rfl rfl)
theorem dX0_tried_4 : decode cX0_tried 4 = .ok (.aload_n 0, 1) := dk_42 (dk_at dksX0_tried_0 4 rfl rfl)
theorem dX0_tried_5 : decode cX0_tried 5 = .ok (.getfield 36, 3) := dk_180 0 36 (dk_at dksX0_tried_0 5 rfl rfl)
theorem dX0_tried_8 : decode cX0_tried 8 = .ok (.invokevirtual 84, 3) := dk_182 0 84 (dk_at dksX0_tried_0 8 rfl rfl)
theorem dX0_tried_11 : decode cX0_tried 11 = .ok (.areturn, 1) := dk_176 (dk_at dksX0_tried_0 11 rfl rfl)
abbrev cX0_bestPair : ByteArray := prog_1_method_48_code
def yX0_bestPair : MethodName := ⟨RX0, "bestPair", "()I"⟩
def dkwX0_bestPair_3 : List UInt8 := [132, 4, 1, 167, 255, 207, 132, 3, 1, 167, 255, 185, 27, 172]
abbrev dktX0_bestPair_3 : List UInt8 := dkwX0_bestPair_3 ++ []
def dkwX0_bestPair_2 : List UInt8 := [164, 0, 13, 16, 10, 29, 104, 21, 4, 96, 167, 0, 4, 27, 60, 28, 21, 5, 184, 1, 24, 61]
abbrev dktX0_bestPair_2 : List UInt8 := dkwX0_bestPair_2 ++ dktX0_bestPair_3
def dkwX0_bestPair_1 : List UInt8 := [42, 180, 0, 36, 180, 0, 192, 162, 0, 43, 42, 29, 21, 4, 182, 1, 31, 54, 5, 21, 5, 28]
abbrev dktX0_bestPair_1 : List UInt8 := dkwX0_bestPair_1 ++ dktX0_bestPair_2
def dkwX0_bestPair_0 : List UInt8 := [2, 60, 2, 61, 3, 62, 29, 42, 180, 0, 36, 180, 0, 192, 162, 0, 66, 29, 4, 96, 54, 4, 21, 4]
abbrev dktX0_bestPair_0 : List UInt8 := dkwX0_bestPair_0 ++ dktX0_bestPair_1
theorem dksX0_bestPair_0 : cX0_bestPair.data.toList.drop 0 = dktX0_bestPair_0 := by decide +kernel
theorem dksX0_bestPair_1 : cX0_bestPair.data.toList.drop 24 = dktX0_bestPair_1 := dk_seg dksX0_bestPair_0 24 rfl rfl
theorem dksX0_bestPair_2 : cX0_bestPair.data.toList.drop 46 = dktX0_bestPair_2 := dk_seg dksX0_bestPair_1 22 rfl rfl
theorem dksX0_bestPair_3 : cX0_bestPair.data.toList.drop 68 = dktX0_bestPair_3 := dk_seg dksX0_bestPair_2 22 rfl rfl
theorem dX0_bestPair_0 : decode cX0_bestPair 0 = .ok (.iconst (-1), 1) := dk_2 (dk_at dksX0_bestPair_0 0 rfl rfl)
theorem dX0_bestPair_1 : decode cX0_bestPair 1 = .ok (.istore_n 1, 1) := dk_60 (dk_at dksX0_bestPair_0 1 rfl rfl)
theorem dX0_bestPair_2 : decode cX0_bestPair 2 = .ok (.iconst (-1), 1) := dk_2 (dk_at dksX0_bestPair_0 2 rfl rfl)
theorem dX0_bestPair_3 : decode cX0_bestPair 3 = .ok (.istore_n 2, 1) := dk_61 (dk_at dksX0_bestPair_0 3 rfl rfl)
theorem dX0_bestPair_4 : decode cX0_bestPair 4 = .ok (.iconst 0, 1) := dk_3 (dk_at dksX0_bestPair_0 4 rfl rfl)
theorem dX0_bestPair_5 : decode cX0_bestPair 5 = .ok (.istore_n 3, 1) := dk_62 (dk_at dksX0_bestPair_0 5 rfl rfl)
theorem dX0_bestPair_6 : decode cX0_bestPair 6 = .ok (.iload_n 3, 1) := dk_29 (dk_at dksX0_bestPair_0 6 rfl rfl)
theorem dX0_bestPair_7 : decode cX0_bestPair 7 = .ok (.aload_n 0, 1) := dk_42 (dk_at dksX0_bestPair_0 7 rfl rfl)
theorem dX0_bestPair_8 : decode cX0_bestPair 8 = .ok (.getfield 36, 3) := dk_180 0 36 (dk_at dksX0_bestPair_0 8 rfl rfl)
theorem dX0_bestPair_11 : decode cX0_bestPair 11 = .ok (.getfield 192, 3) := dk_180 0 192 (dk_at dksX0_bestPair_0 11 rfl rfl)
theorem dX0_bestPair_14 : decode cX0_bestPair 14 = .ok (.if_icmp .ge 66, 3) := dk_162 0 66 (dk_at dksX0_bestPair_0 14 rfl rfl)
theorem dX0_bestPair_17 : decode cX0_bestPair 17 = .ok (.iload_n 3, 1) := dk_29 (dk_at dksX0_bestPair_0 17 rfl rfl)
theorem dX0_bestPair_18 : decode cX0_bestPair 18 = .ok (.iconst 1, 1) := dk_4 (dk_at dksX0_bestPair_0 18 rfl rfl)
theorem dX0_bestPair_19 : decode cX0_bestPair 19 = .ok (.iadd, 1) := dk_96 (dk_at dksX0_bestPair_0 19 rfl rfl)
theorem dX0_bestPair_20 : decode cX0_bestPair 20 = .ok (.istore 4, 2) := dk_54 4 (dk_at dksX0_bestPair_0 20 rfl rfl)
theorem dX0_bestPair_22 : decode cX0_bestPair 22 = .ok (.iload 4, 2) := dk_21 4 (dk_at dksX0_bestPair_0 22 rfl rfl)
theorem dX0_bestPair_24 : decode cX0_bestPair 24 = .ok (.aload_n 0, 1) := dk_42 (dk_at dksX0_bestPair_1 0 rfl rfl)
theorem dX0_bestPair_25 : decode cX0_bestPair 25 = .ok (.getfield 36, 3) := dk_180 0 36 (dk_at dksX0_bestPair_1 1 rfl rfl)
theorem dX0_bestPair_28 : decode cX0_bestPair 28 = .ok (.getfield 192, 3) := dk_180 0 192 (dk_at dksX0_bestPair_1 4 rfl rfl)
theorem dX0_bestPair_31 : decode cX0_bestPair 31 = .ok (.if_icmp .ge 43, 3) := dk_162 0 43 (dk_at dksX0_bestPair_1 7 rfl rfl)
theorem dX0_bestPair_34 : decode cX0_bestPair 34 = .ok (.aload_n 0, 1) := dk_42 (dk_at dksX0_bestPair_1 10 rfl rfl)
theorem dX0_bestPair_35 : decode cX0_bestPair 35 = .ok (.iload_n 3, 1) := dk_29 (dk_at dksX0_bestPair_1 11 rfl rfl)
theorem dX0_bestPair_36 : decode cX0_bestPair 36 = .ok (.iload 4, 2) := dk_21 4 (dk_at dksX0_bestPair_1 12 rfl rfl)
theorem dX0_bestPair_38 : decode cX0_bestPair 38 = .ok (.invokevirtual 287, 3) := dk_182 1 31 (dk_at dksX0_bestPair_1 14 rfl rfl)
theorem dX0_bestPair_41 : decode cX0_bestPair 41 = .ok (.istore 5, 2) := dk_54 5 (dk_at dksX0_bestPair_1 17 rfl rfl)
theorem dX0_bestPair_43 : decode cX0_bestPair 43 = .ok (.iload 5, 2) := dk_21 5 (dk_at dksX0_bestPair_1 19 rfl rfl)
theorem dX0_bestPair_45 : decode cX0_bestPair 45 = .ok (.iload_n 2, 1) := dk_28 (dk_at dksX0_bestPair_1 21 rfl rfl)
theorem dX0_bestPair_46 : decode cX0_bestPair 46 = .ok (.if_icmp .le 13, 3) := dk_164 0 13 (dk_at dksX0_bestPair_2 0 rfl rfl)
theorem dX0_bestPair_49 : decode cX0_bestPair 49 = .ok (.bipush 10, 2) := dk_16 10 (dk_at dksX0_bestPair_2 3 rfl rfl)
theorem dX0_bestPair_51 : decode cX0_bestPair 51 = .ok (.iload_n 3, 1) := dk_29 (dk_at dksX0_bestPair_2 5 rfl rfl)
theorem dX0_bestPair_52 : decode cX0_bestPair 52 = .ok (.imul, 1) := dk_104 (dk_at dksX0_bestPair_2 6 rfl rfl)
theorem dX0_bestPair_53 : decode cX0_bestPair 53 = .ok (.iload 4, 2) := dk_21 4 (dk_at dksX0_bestPair_2 7 rfl rfl)
theorem dX0_bestPair_55 : decode cX0_bestPair 55 = .ok (.iadd, 1) := dk_96 (dk_at dksX0_bestPair_2 9 rfl rfl)
theorem dX0_bestPair_56 : decode cX0_bestPair 56 = .ok (.goto 4, 3) := dk_167 0 4 (dk_at dksX0_bestPair_2 10 rfl rfl)
theorem dX0_bestPair_59 : decode cX0_bestPair 59 = .ok (.iload_n 1, 1) := dk_27 (dk_at dksX0_bestPair_2 13 rfl rfl)
theorem dX0_bestPair_60 : decode cX0_bestPair 60 = .ok (.istore_n 1, 1) := dk_60 (dk_at dksX0_bestPair_2 14 rfl rfl)
theorem dX0_bestPair_61 : decode cX0_bestPair 61 = .ok (.iload_n 2, 1) := dk_28 (dk_at dksX0_bestPair_2 15 rfl rfl)
theorem dX0_bestPair_62 : decode cX0_bestPair 62 = .ok (.iload 5, 2) := dk_21 5 (dk_at dksX0_bestPair_2 16 rfl rfl)
theorem dX0_bestPair_64 : decode cX0_bestPair 64 = .ok (.invokestatic 280, 3) := dk_184 1 24 (dk_at dksX0_bestPair_2 18 rfl rfl)
theorem dX0_bestPair_67 : decode cX0_bestPair 67 = .ok (.istore_n 2, 1) := dk_61 (dk_at dksX0_bestPair_2 21 rfl rfl)
theorem dX0_bestPair_68 : decode cX0_bestPair 68 = .ok (.iinc 4 1, 3) := dk_132 4 1 (dk_at dksX0_bestPair_3 0 rfl rfl)
theorem dX0_bestPair_71 : decode cX0_bestPair 71 = .ok (.goto (-49), 3) := dk_167 255 207 (dk_at dksX0_bestPair_3 3 rfl rfl)
theorem dX0_bestPair_74 : decode cX0_bestPair 74 = .ok (.iinc 3 1, 3) := dk_132 3 1 (dk_at dksX0_bestPair_3 6 rfl rfl)
theorem dX0_bestPair_77 : decode cX0_bestPair 77 = .ok (.goto (-71), 3) := dk_167 255 185 (dk_at dksX0_bestPair_3 9 rfl rfl)
theorem dX0_bestPair_80 : decode cX0_bestPair 80 = .ok (.iload_n 1, 1) := dk_27 (dk_at dksX0_bestPair_3 12 rfl rfl)
theorem dX0_bestPair_81 : decode cX0_bestPair 81 = .ok (.ireturn, 1) := dk_172 (dk_at dksX0_bestPair_3 13 rfl rfl)
abbrev cX0_oldest : ByteArray := prog_1_method_49_code
def yX0_oldest : MethodName := ⟨RX0, "oldest", "(I)I"⟩
def dkwX0_oldest_2 : List UInt8 := [182, 0, 164, 180, 1, 11, 27, 184, 0, 202, 153, 0, 5, 29, 172, 132, 3, 255, 167, 255, 218, 2, 172]
abbrev dktX0_oldest_2 : List UInt8 := dkwX0_oldest_2 ++ []
def dkwX0_oldest_1 : List UInt8 := [16, 99, 62, 29, 155, 0, 40, 44, 180, 0, 171, 27, 29, 79, 42, 180, 0, 53, 44, 44, 182, 0, 80]
abbrev dktX0_oldest_1 : List UInt8 := dkwX0_oldest_1 ++ dktX0_oldest_2
def dkwX0_oldest_0 : List UInt8 := [42, 180, 0, 36, 27, 182, 0, 157, 154, 0, 10, 42, 16, 254, 182, 0, 105, 172, 42, 182, 1, 29, 77]
abbrev dktX0_oldest_0 : List UInt8 := dkwX0_oldest_0 ++ dktX0_oldest_1
theorem dksX0_oldest_0 : cX0_oldest.data.toList.drop 0 = dktX0_oldest_0 := by decide +kernel
theorem dksX0_oldest_1 : cX0_oldest.data.toList.drop 23 = dktX0_oldest_1 := dk_seg dksX0_oldest_0 23 rfl rfl
theorem dksX0_oldest_2 : cX0_oldest.data.toList.drop 46 = dktX0_oldest_2 := dk_seg dksX0_oldest_1 23 rfl rfl
theorem dX0_oldest_0 : decode cX0_oldest 0 = .ok (.aload_n 0, 1) := dk_42 (dk_at dksX0_oldest_0 0 rfl rfl)
theorem dX0_oldest_1 : decode cX0_oldest 1 = .ok (.getfield 36, 3) := dk_180 0 36 (dk_at dksX0_oldest_0 1 rfl rfl)
theorem dX0_oldest_4 : decode cX0_oldest 4 = .ok (.iload_n 1, 1) := dk_27 (dk_at dksX0_oldest_0 4 rfl rfl)
theorem dX0_oldest_5 : decode cX0_oldest 5 = .ok (.invokevirtual 157, 3) := dk_182 0 157 (dk_at dksX0_oldest_0 5 rfl rfl)
theorem dX0_oldest_8 : decode cX0_oldest 8 = .ok (.ifCond .ne 10, 3) := dk_154 0 10 (dk_at dksX0_oldest_0 8 rfl rfl)
theorem dX0_oldest_11 : decode cX0_oldest 11 = .ok (.aload_n 0, 1) := dk_42 (dk_at dksX0_oldest_0 11 rfl rfl)
theorem dX0_oldest_12 : decode cX0_oldest 12 = .ok (.bipush (-2), 2) := dk_16 254 (dk_at dksX0_oldest_0 12 rfl rfl)
theorem dX0_oldest_14 : decode cX0_oldest 14 = .ok (.invokevirtual 105, 3) := dk_182 0 105 (dk_at dksX0_oldest_0 14 rfl rfl)
theorem dX0_oldest_17 : decode cX0_oldest 17 = .ok (.ireturn, 1) := dk_172 (dk_at dksX0_oldest_0 17 rfl rfl)
theorem dX0_oldest_18 : decode cX0_oldest 18 = .ok (.aload_n 0, 1) := dk_42 (dk_at dksX0_oldest_0 18 rfl rfl)
theorem dX0_oldest_19 : decode cX0_oldest 19 = .ok (.invokevirtual 285, 3) := dk_182 1 29 (dk_at dksX0_oldest_0 19 rfl rfl)
theorem dX0_oldest_22 : decode cX0_oldest 22 = .ok (.astore_n 2, 1) := dk_77 (dk_at dksX0_oldest_0 22 rfl rfl)
theorem dX0_oldest_23 : decode cX0_oldest 23 = .ok (.bipush 99, 2) := dk_16 99 (dk_at dksX0_oldest_1 0 rfl rfl)
theorem dX0_oldest_25 : decode cX0_oldest 25 = .ok (.istore_n 3, 1) := dk_62 (dk_at dksX0_oldest_1 2 rfl rfl)
theorem dX0_oldest_26 : decode cX0_oldest 26 = .ok (.iload_n 3, 1) := dk_29 (dk_at dksX0_oldest_1 3 rfl rfl)
theorem dX0_oldest_27 : decode cX0_oldest 27 = .ok (.ifCond .lt 40, 3) := dk_155 0 40 (dk_at dksX0_oldest_1 4 rfl rfl)
theorem dX0_oldest_30 : decode cX0_oldest 30 = .ok (.aload_n 2, 1) := dk_44 (dk_at dksX0_oldest_1 7 rfl rfl)
theorem dX0_oldest_31 : decode cX0_oldest 31 = .ok (.getfield 171, 3) := dk_180 0 171 (dk_at dksX0_oldest_1 8 rfl rfl)
theorem dX0_oldest_34 : decode cX0_oldest 34 = .ok (.iload_n 1, 1) := dk_27 (dk_at dksX0_oldest_1 11 rfl rfl)
theorem dX0_oldest_35 : decode cX0_oldest 35 = .ok (.iload_n 3, 1) := dk_29 (dk_at dksX0_oldest_1 12 rfl rfl)
theorem dX0_oldest_36 : decode cX0_oldest 36 = .ok (.iastore, 1) := dk_79 (dk_at dksX0_oldest_1 13 rfl rfl)
theorem dX0_oldest_37 : decode cX0_oldest 37 = .ok (.aload_n 0, 1) := dk_42 (dk_at dksX0_oldest_1 14 rfl rfl)
theorem dX0_oldest_38 : decode cX0_oldest 38 = .ok (.getfield 53, 3) := dk_180 0 53 (dk_at dksX0_oldest_1 15 rfl rfl)
theorem dX0_oldest_41 : decode cX0_oldest 41 = .ok (.aload_n 2, 1) := dk_44 (dk_at dksX0_oldest_1 18 rfl rfl)
theorem dX0_oldest_42 : decode cX0_oldest 42 = .ok (.aload_n 2, 1) := dk_44 (dk_at dksX0_oldest_1 19 rfl rfl)
theorem dX0_oldest_43 : decode cX0_oldest 43 = .ok (.invokevirtual 80, 3) := dk_182 0 80 (dk_at dksX0_oldest_1 20 rfl rfl)
theorem dX0_oldest_46 : decode cX0_oldest 46 = .ok (.invokevirtual 164, 3) := dk_182 0 164 (dk_at dksX0_oldest_2 0 rfl rfl)
theorem dX0_oldest_49 : decode cX0_oldest 49 = .ok (.getfield 267, 3) := dk_180 1 11 (dk_at dksX0_oldest_2 3 rfl rfl)
theorem dX0_oldest_52 : decode cX0_oldest 52 = .ok (.iload_n 1, 1) := dk_27 (dk_at dksX0_oldest_2 6 rfl rfl)
theorem dX0_oldest_53 : decode cX0_oldest 53 = .ok (.invokestatic 202, 3) := dk_184 0 202 (dk_at dksX0_oldest_2 7 rfl rfl)
theorem dX0_oldest_56 : decode cX0_oldest 56 = .ok (.ifCond .eq 5, 3) := dk_153 0 5 (dk_at dksX0_oldest_2 10 rfl rfl)
theorem dX0_oldest_59 : decode cX0_oldest 59 = .ok (.iload_n 3, 1) := dk_29 (dk_at dksX0_oldest_2 13 rfl rfl)
theorem dX0_oldest_60 : decode cX0_oldest 60 = .ok (.ireturn, 1) := dk_172 (dk_at dksX0_oldest_2 14 rfl rfl)
theorem dX0_oldest_61 : decode cX0_oldest 61 = .ok (.iinc 3 (-1), 3) := dk_132 3 255 (dk_at dksX0_oldest_2 15 rfl rfl)
theorem dX0_oldest_64 : decode cX0_oldest 64 = .ok (.goto (-38), 3) := dk_167 255 218 (dk_at dksX0_oldest_2 18 rfl rfl)
theorem dX0_oldest_67 : decode cX0_oldest 67 = .ok (.iconst (-1), 1) := dk_2 (dk_at dksX0_oldest_2 21 rfl rfl)
theorem dX0_oldest_68 : decode cX0_oldest 68 = .ok (.ireturn, 1) := dk_172 (dk_at dksX0_oldest_2 22 rfl rfl)
abbrev cX0_twice : ByteArray := prog_1_method_50_code
def yX0_twice : MethodName := ⟨RX0, "twice", "(II)I"⟩
def dkwX0_twice_2 : List UInt8 := [180, 0, 53, 42, 180, 0, 36, 42, 180, 0, 46, 28, 182, 1, 38, 182, 0, 250, 172]
abbrev dktX0_twice_2 : List UInt8 := dkwX0_twice_2 ++ []
def dkwX0_twice_1 : List UInt8 := [180, 0, 46, 42, 180, 0, 53, 42, 180, 0, 36, 27, 182, 0, 164, 180, 1, 34, 182, 1, 35, 87, 42]
abbrev dktX0_twice_1 : List UInt8 := dkwX0_twice_1 ++ dktX0_twice_2
def dkwX0_twice_0 : List UInt8 := [42, 27, 182, 0, 247, 153, 0, 11, 42, 28, 182, 0, 247, 154, 0, 10, 42, 16, 254, 182, 0, 105, 172, 42]
abbrev dktX0_twice_0 : List UInt8 := dkwX0_twice_0 ++ dktX0_twice_1
theorem dksX0_twice_0 : cX0_twice.data.toList.drop 0 = dktX0_twice_0 := by decide +kernel
theorem dksX0_twice_1 : cX0_twice.data.toList.drop 24 = dktX0_twice_1 := dk_seg dksX0_twice_0 24 rfl rfl
theorem dksX0_twice_2 : cX0_twice.data.toList.drop 47 = dktX0_twice_2 := dk_seg dksX0_twice_1 23 rfl rfl
theorem dX0_twice_0 : decode cX0_twice 0 = .ok (.aload_n 0, 1) := dk_42 (dk_at dksX0_twice_0 0 rfl rfl)
theorem dX0_twice_1 : decode cX0_twice 1 = .ok (.iload_n 1, 1) := dk_27 (dk_at dksX0_twice_0 1 rfl rfl)
theorem dX0_twice_2 : decode cX0_twice 2 = .ok (.invokevirtual 247, 3) := dk_182 0 247 (dk_at dksX0_twice_0 2 rfl rfl)
theorem dX0_twice_5 : decode cX0_twice 5 = .ok (.ifCond .eq 11, 3) := dk_153 0 11 (dk_at dksX0_twice_0 5 rfl rfl)
theorem dX0_twice_8 : decode cX0_twice 8 = .ok (.aload_n 0, 1) := dk_42 (dk_at dksX0_twice_0 8 rfl rfl)
theorem dX0_twice_9 : decode cX0_twice 9 = .ok (.iload_n 2, 1) := dk_28 (dk_at dksX0_twice_0 9 rfl rfl)
theorem dX0_twice_10 : decode cX0_twice 10 = .ok (.invokevirtual 247, 3) := dk_182 0 247 (dk_at dksX0_twice_0 10 rfl rfl)
theorem dX0_twice_13 : decode cX0_twice 13 = .ok (.ifCond .ne 10, 3) := dk_154 0 10 (dk_at dksX0_twice_0 13 rfl rfl)
theorem dX0_twice_16 : decode cX0_twice 16 = .ok (.aload_n 0, 1) := dk_42 (dk_at dksX0_twice_0 16 rfl rfl)
theorem dX0_twice_17 : decode cX0_twice 17 = .ok (.bipush (-2), 2) := dk_16 254 (dk_at dksX0_twice_0 17 rfl rfl)
theorem dX0_twice_19 : decode cX0_twice 19 = .ok (.invokevirtual 105, 3) := dk_182 0 105 (dk_at dksX0_twice_0 19 rfl rfl)
theorem dX0_twice_22 : decode cX0_twice 22 = .ok (.ireturn, 1) := dk_172 (dk_at dksX0_twice_0 22 rfl rfl)
theorem dX0_twice_23 : decode cX0_twice 23 = .ok (.aload_n 0, 1) := dk_42 (dk_at dksX0_twice_0 23 rfl rfl)
theorem dX0_twice_24 : decode cX0_twice 24 = .ok (.getfield 46, 3) := dk_180 0 46 (dk_at dksX0_twice_1 0 rfl rfl)
theorem dX0_twice_27 : decode cX0_twice 27 = .ok (.aload_n 0, 1) := dk_42 (dk_at dksX0_twice_1 3 rfl rfl)
theorem dX0_twice_28 : decode cX0_twice 28 = .ok (.getfield 53, 3) := dk_180 0 53 (dk_at dksX0_twice_1 4 rfl rfl)
theorem dX0_twice_31 : decode cX0_twice 31 = .ok (.aload_n 0, 1) := dk_42 (dk_at dksX0_twice_1 7 rfl rfl)
theorem dX0_twice_32 : decode cX0_twice 32 = .ok (.getfield 36, 3) := dk_180 0 36 (dk_at dksX0_twice_1 8 rfl rfl)
theorem dX0_twice_35 : decode cX0_twice 35 = .ok (.iload_n 1, 1) := dk_27 (dk_at dksX0_twice_1 11 rfl rfl)
theorem dX0_twice_36 : decode cX0_twice 36 = .ok (.invokevirtual 164, 3) := dk_182 0 164 (dk_at dksX0_twice_1 12 rfl rfl)
theorem dX0_twice_39 : decode cX0_twice 39 = .ok (.getfield 290, 3) := dk_180 1 34 (dk_at dksX0_twice_1 15 rfl rfl)
theorem dX0_twice_42 : decode cX0_twice 42 = .ok (.invokevirtual 291, 3) := dk_182 1 35 (dk_at dksX0_twice_1 18 rfl rfl)
theorem dX0_twice_45 : decode cX0_twice 45 = .ok (.pop, 1) := dk_87 (dk_at dksX0_twice_1 21 rfl rfl)
theorem dX0_twice_46 : decode cX0_twice 46 = .ok (.aload_n 0, 1) := dk_42 (dk_at dksX0_twice_1 22 rfl rfl)
theorem dX0_twice_47 : decode cX0_twice 47 = .ok (.getfield 53, 3) := dk_180 0 53 (dk_at dksX0_twice_2 0 rfl rfl)
theorem dX0_twice_50 : decode cX0_twice 50 = .ok (.aload_n 0, 1) := dk_42 (dk_at dksX0_twice_2 3 rfl rfl)
theorem dX0_twice_51 : decode cX0_twice 51 = .ok (.getfield 36, 3) := dk_180 0 36 (dk_at dksX0_twice_2 4 rfl rfl)
theorem dX0_twice_54 : decode cX0_twice 54 = .ok (.aload_n 0, 1) := dk_42 (dk_at dksX0_twice_2 7 rfl rfl)
theorem dX0_twice_55 : decode cX0_twice 55 = .ok (.getfield 46, 3) := dk_180 0 46 (dk_at dksX0_twice_2 8 rfl rfl)
theorem dX0_twice_58 : decode cX0_twice 58 = .ok (.iload_n 2, 1) := dk_28 (dk_at dksX0_twice_2 11 rfl rfl)
theorem dX0_twice_59 : decode cX0_twice 59 = .ok (.invokevirtual 294, 3) := dk_182 1 38 (dk_at dksX0_twice_2 12 rfl rfl)
theorem dX0_twice_62 : decode cX0_twice 62 = .ok (.invokevirtual 250, 3) := dk_182 0 250 (dk_at dksX0_twice_2 15 rfl rfl)
theorem dX0_twice_65 : decode cX0_twice 65 = .ok (.ireturn, 1) := dk_172 (dk_at dksX0_twice_2 18 rfl rfl)
abbrev cX0_unlike : ByteArray := prog_1_method_51_code
def yX0_unlike : MethodName := ⟨RX0, "unlike", "(I)I"⟩
def dkwX0_unlike_2 : List UInt8 := [182, 1, 42, 158, 0, 7, 4, 167, 0, 4, 3, 96, 61, 132, 3, 1, 167, 255, 225, 28, 172]
abbrev dktX0_unlike_2 : List UInt8 := dkwX0_unlike_2 ++ []
def dkwX0_unlike_1 : List UInt8 := [182, 0, 164, 87, 3, 61, 3, 62, 29, 16, 8, 162, 0, 31, 28, 42, 180, 0, 53, 180, 1, 34, 29]
abbrev dktX0_unlike_1 : List UInt8 := dkwX0_unlike_1 ++ dktX0_unlike_2
def dkwX0_unlike_0 : List UInt8 := [42, 27, 182, 0, 247, 154, 0, 10, 42, 16, 254, 182, 0, 105, 172, 42, 180, 0, 53, 42, 180, 0, 36, 27]
abbrev dktX0_unlike_0 : List UInt8 := dkwX0_unlike_0 ++ dktX0_unlike_1
theorem dksX0_unlike_0 : cX0_unlike.data.toList.drop 0 = dktX0_unlike_0 := by decide +kernel
theorem dksX0_unlike_1 : cX0_unlike.data.toList.drop 24 = dktX0_unlike_1 := dk_seg dksX0_unlike_0 24 rfl rfl
theorem dksX0_unlike_2 : cX0_unlike.data.toList.drop 47 = dktX0_unlike_2 := dk_seg dksX0_unlike_1 23 rfl rfl
theorem dX0_unlike_0 : decode cX0_unlike 0 = .ok (.aload_n 0, 1) := dk_42 (dk_at dksX0_unlike_0 0 rfl rfl)
theorem dX0_unlike_1 : decode cX0_unlike 1 = .ok (.iload_n 1, 1) := dk_27 (dk_at dksX0_unlike_0 1 rfl rfl)
theorem dX0_unlike_2 : decode cX0_unlike 2 = .ok (.invokevirtual 247, 3) := dk_182 0 247 (dk_at dksX0_unlike_0 2 rfl rfl)
theorem dX0_unlike_5 : decode cX0_unlike 5 = .ok (.ifCond .ne 10, 3) := dk_154 0 10 (dk_at dksX0_unlike_0 5 rfl rfl)
theorem dX0_unlike_8 : decode cX0_unlike 8 = .ok (.aload_n 0, 1) := dk_42 (dk_at dksX0_unlike_0 8 rfl rfl)
theorem dX0_unlike_9 : decode cX0_unlike 9 = .ok (.bipush (-2), 2) := dk_16 254 (dk_at dksX0_unlike_0 9 rfl rfl)
theorem dX0_unlike_11 : decode cX0_unlike 11 = .ok (.invokevirtual 105, 3) := dk_182 0 105 (dk_at dksX0_unlike_0 11 rfl rfl)
theorem dX0_unlike_14 : decode cX0_unlike 14 = .ok (.ireturn, 1) := dk_172 (dk_at dksX0_unlike_0 14 rfl rfl)
theorem dX0_unlike_15 : decode cX0_unlike 15 = .ok (.aload_n 0, 1) := dk_42 (dk_at dksX0_unlike_0 15 rfl rfl)
theorem dX0_unlike_16 : decode cX0_unlike 16 = .ok (.getfield 53, 3) := dk_180 0 53 (dk_at dksX0_unlike_0 16 rfl rfl)
theorem dX0_unlike_19 : decode cX0_unlike 19 = .ok (.aload_n 0, 1) := dk_42 (dk_at dksX0_unlike_0 19 rfl rfl)
theorem dX0_unlike_20 : decode cX0_unlike 20 = .ok (.getfield 36, 3) := dk_180 0 36 (dk_at dksX0_unlike_0 20 rfl rfl)
theorem dX0_unlike_23 : decode cX0_unlike 23 = .ok (.iload_n 1, 1) := dk_27 (dk_at dksX0_unlike_0 23 rfl rfl)
theorem dX0_unlike_24 : decode cX0_unlike 24 = .ok (.invokevirtual 164, 3) := dk_182 0 164 (dk_at dksX0_unlike_1 0 rfl rfl)
theorem dX0_unlike_27 : decode cX0_unlike 27 = .ok (.pop, 1) := dk_87 (dk_at dksX0_unlike_1 3 rfl rfl)
theorem dX0_unlike_28 : decode cX0_unlike 28 = .ok (.iconst 0, 1) := dk_3 (dk_at dksX0_unlike_1 4 rfl rfl)
theorem dX0_unlike_29 : decode cX0_unlike 29 = .ok (.istore_n 2, 1) := dk_61 (dk_at dksX0_unlike_1 5 rfl rfl)
theorem dX0_unlike_30 : decode cX0_unlike 30 = .ok (.iconst 0, 1) := dk_3 (dk_at dksX0_unlike_1 6 rfl rfl)
theorem dX0_unlike_31 : decode cX0_unlike 31 = .ok (.istore_n 3, 1) := dk_62 (dk_at dksX0_unlike_1 7 rfl rfl)
theorem dX0_unlike_32 : decode cX0_unlike 32 = .ok (.iload_n 3, 1) := dk_29 (dk_at dksX0_unlike_1 8 rfl rfl)
theorem dX0_unlike_33 : decode cX0_unlike 33 = .ok (.bipush 8, 2) := dk_16 8 (dk_at dksX0_unlike_1 9 rfl rfl)
theorem dX0_unlike_35 : decode cX0_unlike 35 = .ok (.if_icmp .ge 31, 3) := dk_162 0 31 (dk_at dksX0_unlike_1 11 rfl rfl)
theorem dX0_unlike_38 : decode cX0_unlike 38 = .ok (.iload_n 2, 1) := dk_28 (dk_at dksX0_unlike_1 14 rfl rfl)
theorem dX0_unlike_39 : decode cX0_unlike 39 = .ok (.aload_n 0, 1) := dk_42 (dk_at dksX0_unlike_1 15 rfl rfl)
theorem dX0_unlike_40 : decode cX0_unlike 40 = .ok (.getfield 53, 3) := dk_180 0 53 (dk_at dksX0_unlike_1 16 rfl rfl)
theorem dX0_unlike_43 : decode cX0_unlike 43 = .ok (.getfield 290, 3) := dk_180 1 34 (dk_at dksX0_unlike_1 19 rfl rfl)
theorem dX0_unlike_46 : decode cX0_unlike 46 = .ok (.iload_n 3, 1) := dk_29 (dk_at dksX0_unlike_1 22 rfl rfl)
theorem dX0_unlike_47 : decode cX0_unlike 47 = .ok (.invokevirtual 298, 3) := dk_182 1 42 (dk_at dksX0_unlike_2 0 rfl rfl)
theorem dX0_unlike_50 : decode cX0_unlike 50 = .ok (.ifCond .le 7, 3) := dk_158 0 7 (dk_at dksX0_unlike_2 3 rfl rfl)
theorem dX0_unlike_53 : decode cX0_unlike 53 = .ok (.iconst 1, 1) := dk_4 (dk_at dksX0_unlike_2 6 rfl rfl)
theorem dX0_unlike_54 : decode cX0_unlike 54 = .ok (.goto 4, 3) := dk_167 0 4 (dk_at dksX0_unlike_2 7 rfl rfl)
theorem dX0_unlike_57 : decode cX0_unlike 57 = .ok (.iconst 0, 1) := dk_3 (dk_at dksX0_unlike_2 10 rfl rfl)
theorem dX0_unlike_58 : decode cX0_unlike 58 = .ok (.iadd, 1) := dk_96 (dk_at dksX0_unlike_2 11 rfl rfl)
theorem dX0_unlike_59 : decode cX0_unlike 59 = .ok (.istore_n 2, 1) := dk_61 (dk_at dksX0_unlike_2 12 rfl rfl)
theorem dX0_unlike_60 : decode cX0_unlike 60 = .ok (.iinc 3 1, 3) := dk_132 3 1 (dk_at dksX0_unlike_2 13 rfl rfl)
theorem dX0_unlike_63 : decode cX0_unlike 63 = .ok (.goto (-31), 3) := dk_167 255 225 (dk_at dksX0_unlike_2 16 rfl rfl)
theorem dX0_unlike_66 : decode cX0_unlike 66 = .ok (.iload_n 2, 1) := dk_28 (dk_at dksX0_unlike_2 19 rfl rfl)
theorem dX0_unlike_67 : decode cX0_unlike 67 = .ok (.ireturn, 1) := dk_172 (dk_at dksX0_unlike_2 20 rfl rfl)
abbrev cX0_setOut : ByteArray := prog_1_method_56_code
def yX0_setOut : MethodName := ⟨RX0, "setOut", "(II)I"⟩
def dkwX0_setOut_2 : List UInt8 := [167, 0, 9, 42, 16, 251, 182, 0, 105, 172]
abbrev dktX0_setOut_2 : List UInt8 := dkwX0_setOut_2 ++ []
def dkwX0_setOut_1 : List UInt8 := [182, 1, 54, 62, 28, 2, 160, 0, 7, 29, 167, 0, 23, 28, 29, 162, 0, 12, 42, 180, 0, 57, 28, 46]
abbrev dktX0_setOut_1 : List UInt8 := dkwX0_setOut_1 ++ dktX0_setOut_2
def dkwX0_setOut_0 : List UInt8 := [42, 27, 182, 0, 247, 153, 0, 8, 28, 2, 162, 0, 10, 42, 16, 254, 182, 0, 105, 172, 42, 27]
abbrev dktX0_setOut_0 : List UInt8 := dkwX0_setOut_0 ++ dktX0_setOut_1
theorem dksX0_setOut_0 : cX0_setOut.data.toList.drop 0 = dktX0_setOut_0 := by decide +kernel
theorem dksX0_setOut_1 : cX0_setOut.data.toList.drop 22 = dktX0_setOut_1 := dk_seg dksX0_setOut_0 22 rfl rfl
theorem dksX0_setOut_2 : cX0_setOut.data.toList.drop 46 = dktX0_setOut_2 := dk_seg dksX0_setOut_1 24 rfl rfl
theorem dX0_setOut_0 : decode cX0_setOut 0 = .ok (.aload_n 0, 1) := dk_42 (dk_at dksX0_setOut_0 0 rfl rfl)
theorem dX0_setOut_1 : decode cX0_setOut 1 = .ok (.iload_n 1, 1) := dk_27 (dk_at dksX0_setOut_0 1 rfl rfl)
theorem dX0_setOut_2 : decode cX0_setOut 2 = .ok (.invokevirtual 247, 3) := dk_182 0 247 (dk_at dksX0_setOut_0 2 rfl rfl)
theorem dX0_setOut_5 : decode cX0_setOut 5 = .ok (.ifCond .eq 8, 3) := dk_153 0 8 (dk_at dksX0_setOut_0 5 rfl rfl)
theorem dX0_setOut_8 : decode cX0_setOut 8 = .ok (.iload_n 2, 1) := dk_28 (dk_at dksX0_setOut_0 8 rfl rfl)
theorem dX0_setOut_9 : decode cX0_setOut 9 = .ok (.iconst (-1), 1) := dk_2 (dk_at dksX0_setOut_0 9 rfl rfl)
theorem dX0_setOut_10 : decode cX0_setOut 10 = .ok (.if_icmp .ge 10, 3) := dk_162 0 10 (dk_at dksX0_setOut_0 10 rfl rfl)
theorem dX0_setOut_13 : decode cX0_setOut 13 = .ok (.aload_n 0, 1) := dk_42 (dk_at dksX0_setOut_0 13 rfl rfl)
theorem dX0_setOut_14 : decode cX0_setOut 14 = .ok (.bipush (-2), 2) := dk_16 254 (dk_at dksX0_setOut_0 14 rfl rfl)
theorem dX0_setOut_16 : decode cX0_setOut 16 = .ok (.invokevirtual 105, 3) := dk_182 0 105 (dk_at dksX0_setOut_0 16 rfl rfl)
theorem dX0_setOut_19 : decode cX0_setOut 19 = .ok (.ireturn, 1) := dk_172 (dk_at dksX0_setOut_0 19 rfl rfl)
theorem dX0_setOut_20 : decode cX0_setOut 20 = .ok (.aload_n 0, 1) := dk_42 (dk_at dksX0_setOut_0 20 rfl rfl)
theorem dX0_setOut_21 : decode cX0_setOut 21 = .ok (.iload_n 1, 1) := dk_27 (dk_at dksX0_setOut_0 21 rfl rfl)
theorem dX0_setOut_22 : decode cX0_setOut 22 = .ok (.invokevirtual 310, 3) := dk_182 1 54 (dk_at dksX0_setOut_1 0 rfl rfl)
theorem dX0_setOut_25 : decode cX0_setOut 25 = .ok (.istore_n 3, 1) := dk_62 (dk_at dksX0_setOut_1 3 rfl rfl)
theorem dX0_setOut_26 : decode cX0_setOut 26 = .ok (.iload_n 2, 1) := dk_28 (dk_at dksX0_setOut_1 4 rfl rfl)
theorem dX0_setOut_27 : decode cX0_setOut 27 = .ok (.iconst (-1), 1) := dk_2 (dk_at dksX0_setOut_1 5 rfl rfl)
theorem dX0_setOut_28 : decode cX0_setOut 28 = .ok (.if_icmp .ne 7, 3) := dk_160 0 7 (dk_at dksX0_setOut_1 6 rfl rfl)
theorem dX0_setOut_31 : decode cX0_setOut 31 = .ok (.iload_n 3, 1) := dk_29 (dk_at dksX0_setOut_1 9 rfl rfl)
theorem dX0_setOut_32 : decode cX0_setOut 32 = .ok (.goto 23, 3) := dk_167 0 23 (dk_at dksX0_setOut_1 10 rfl rfl)
theorem dX0_setOut_35 : decode cX0_setOut 35 = .ok (.iload_n 2, 1) := dk_28 (dk_at dksX0_setOut_1 13 rfl rfl)
theorem dX0_setOut_36 : decode cX0_setOut 36 = .ok (.iload_n 3, 1) := dk_29 (dk_at dksX0_setOut_1 14 rfl rfl)
theorem dX0_setOut_37 : decode cX0_setOut 37 = .ok (.if_icmp .ge 12, 3) := dk_162 0 12 (dk_at dksX0_setOut_1 15 rfl rfl)
theorem dX0_setOut_40 : decode cX0_setOut 40 = .ok (.aload_n 0, 1) := dk_42 (dk_at dksX0_setOut_1 18 rfl rfl)
theorem dX0_setOut_41 : decode cX0_setOut 41 = .ok (.getfield 57, 3) := dk_180 0 57 (dk_at dksX0_setOut_1 19 rfl rfl)
theorem dX0_setOut_44 : decode cX0_setOut 44 = .ok (.iload_n 2, 1) := dk_28 (dk_at dksX0_setOut_1 22 rfl rfl)
theorem dX0_setOut_45 : decode cX0_setOut 45 = .ok (.iaload, 1) := dk_46 (dk_at dksX0_setOut_1 23 rfl rfl)
theorem dX0_setOut_46 : decode cX0_setOut 46 = .ok (.goto 9, 3) := dk_167 0 9 (dk_at dksX0_setOut_2 0 rfl rfl)
theorem dX0_setOut_49 : decode cX0_setOut 49 = .ok (.aload_n 0, 1) := dk_42 (dk_at dksX0_setOut_2 3 rfl rfl)
theorem dX0_setOut_50 : decode cX0_setOut 50 = .ok (.bipush (-5), 2) := dk_16 251 (dk_at dksX0_setOut_2 4 rfl rfl)
theorem dX0_setOut_52 : decode cX0_setOut 52 = .ok (.invokevirtual 105, 3) := dk_182 0 105 (dk_at dksX0_setOut_2 6 rfl rfl)
theorem dX0_setOut_55 : decode cX0_setOut 55 = .ok (.ireturn, 1) := dk_172 (dk_at dksX0_setOut_2 9 rfl rfl)
abbrev cX0_fewestOut : ByteArray := prog_1_method_55_code
def yX0_fewestOut : MethodName := ⟨RX0, "fewestOut", "(I)I"⟩
def dkwX0_fewestOut_1 : List UInt8 := [3, 28, 182, 1, 51, 153, 0, 5, 28, 172, 132, 2, 1, 167, 255, 221, 2, 172]
abbrev dktX0_fewestOut_1 : List UInt8 := dkwX0_fewestOut_1 ++ []
def dkwX0_fewestOut_0 : List UInt8 := [3, 61, 28, 6, 163, 0, 36, 42, 180, 0, 46, 42, 180, 0, 36, 180, 0, 186, 182, 1, 35, 87, 42, 27]
abbrev dktX0_fewestOut_0 : List UInt8 := dkwX0_fewestOut_0 ++ dktX0_fewestOut_1
theorem dksX0_fewestOut_0 : cX0_fewestOut.data.toList.drop 0 = dktX0_fewestOut_0 := by decide +kernel
theorem dksX0_fewestOut_1 : cX0_fewestOut.data.toList.drop 24 = dktX0_fewestOut_1 := dk_seg dksX0_fewestOut_0 24 rfl rfl
theorem dX0_fewestOut_0 : decode cX0_fewestOut 0 = .ok (.iconst 0, 1) := dk_3 (dk_at dksX0_fewestOut_0 0 rfl rfl)
theorem dX0_fewestOut_1 : decode cX0_fewestOut 1 = .ok (.istore_n 2, 1) := dk_61 (dk_at dksX0_fewestOut_0 1 rfl rfl)
theorem dX0_fewestOut_2 : decode cX0_fewestOut 2 = .ok (.iload_n 2, 1) := dk_28 (dk_at dksX0_fewestOut_0 2 rfl rfl)
theorem dX0_fewestOut_3 : decode cX0_fewestOut 3 = .ok (.iconst 3, 1) := dk_6 (dk_at dksX0_fewestOut_0 3 rfl rfl)
theorem dX0_fewestOut_4 : decode cX0_fewestOut 4 = .ok (.if_icmp .gt 36, 3) := dk_163 0 36 (dk_at dksX0_fewestOut_0 4 rfl rfl)
theorem dX0_fewestOut_7 : decode cX0_fewestOut 7 = .ok (.aload_n 0, 1) := dk_42 (dk_at dksX0_fewestOut_0 7 rfl rfl)
theorem dX0_fewestOut_8 : decode cX0_fewestOut 8 = .ok (.getfield 46, 3) := dk_180 0 46 (dk_at dksX0_fewestOut_0 8 rfl rfl)
theorem dX0_fewestOut_11 : decode cX0_fewestOut 11 = .ok (.aload_n 0, 1) := dk_42 (dk_at dksX0_fewestOut_0 11 rfl rfl)
theorem dX0_fewestOut_12 : decode cX0_fewestOut 12 = .ok (.getfield 36, 3) := dk_180 0 36 (dk_at dksX0_fewestOut_0 12 rfl rfl)
theorem dX0_fewestOut_15 : decode cX0_fewestOut 15 = .ok (.getfield 186, 3) := dk_180 0 186 (dk_at dksX0_fewestOut_0 15 rfl rfl)
theorem dX0_fewestOut_18 : decode cX0_fewestOut 18 = .ok (.invokevirtual 291, 3) := dk_182 1 35 (dk_at dksX0_fewestOut_0 18 rfl rfl)
theorem dX0_fewestOut_21 : decode cX0_fewestOut 21 = .ok (.pop, 1) := dk_87 (dk_at dksX0_fewestOut_0 21 rfl rfl)
theorem dX0_fewestOut_22 : decode cX0_fewestOut 22 = .ok (.aload_n 0, 1) := dk_42 (dk_at dksX0_fewestOut_0 22 rfl rfl)
theorem dX0_fewestOut_23 : decode cX0_fewestOut 23 = .ok (.iload_n 1, 1) := dk_27 (dk_at dksX0_fewestOut_0 23 rfl rfl)
theorem dX0_fewestOut_24 : decode cX0_fewestOut 24 = .ok (.iconst 0, 1) := dk_3 (dk_at dksX0_fewestOut_1 0 rfl rfl)
theorem dX0_fewestOut_25 : decode cX0_fewestOut 25 = .ok (.iload_n 2, 1) := dk_28 (dk_at dksX0_fewestOut_1 1 rfl rfl)
theorem dX0_fewestOut_26 : decode cX0_fewestOut 26 = .ok (.invokevirtual 307, 3) := dk_182 1 51 (dk_at dksX0_fewestOut_1 2 rfl rfl)
theorem dX0_fewestOut_29 : decode cX0_fewestOut 29 = .ok (.ifCond .eq 5, 3) := dk_153 0 5 (dk_at dksX0_fewestOut_1 5 rfl rfl)
theorem dX0_fewestOut_32 : decode cX0_fewestOut 32 = .ok (.iload_n 2, 1) := dk_28 (dk_at dksX0_fewestOut_1 8 rfl rfl)
theorem dX0_fewestOut_33 : decode cX0_fewestOut 33 = .ok (.ireturn, 1) := dk_172 (dk_at dksX0_fewestOut_1 9 rfl rfl)
theorem dX0_fewestOut_34 : decode cX0_fewestOut 34 = .ok (.iinc 2 1, 3) := dk_132 2 1 (dk_at dksX0_fewestOut_1 10 rfl rfl)
theorem dX0_fewestOut_37 : decode cX0_fewestOut 37 = .ok (.goto (-35), 3) := dk_167 255 221 (dk_at dksX0_fewestOut_1 13 rfl rfl)
theorem dX0_fewestOut_40 : decode cX0_fewestOut 40 = .ok (.iconst (-1), 1) := dk_2 (dk_at dksX0_fewestOut_1 16 rfl rfl)
theorem dX0_fewestOut_41 : decode cX0_fewestOut 41 = .ok (.ireturn, 1) := dk_172 (dk_at dksX0_fewestOut_1 17 rfl rfl)
abbrev cX0_makesGlad : ByteArray := prog_1_method_54_code
def yX0_makesGlad : MethodName := ⟨RX0, "makesGlad", "(III)Z"⟩
def dkwX0_makesGlad_5 : List UInt8 := [132, 5, 1, 167, 255, 182, 3, 172]
abbrev dktX0_makesGlad_5 : List UInt8 := dkwX0_makesGlad_5 ++ []
def dkwX0_makesGlad_4 : List UInt8 := [27, 28, 4, 96, 29, 182, 1, 51, 153, 0, 5, 4, 172, 42, 180, 0, 46, 180, 0, 189, 21, 4, 2, 79]
abbrev dktX0_makesGlad_4 : List UInt8 := dkwX0_makesGlad_4 ++ dktX0_makesGlad_5
def dkwX0_makesGlad_3 : List UInt8 := [153, 0, 48, 42, 180, 0, 57, 28, 21, 5, 79, 42, 180, 0, 46, 180, 0, 189, 21, 4, 21, 5, 79, 42]
abbrev dktX0_makesGlad_3 : List UInt8 := dkwX0_makesGlad_3 ++ dktX0_makesGlad_4
def dkwX0_makesGlad_2 : List UInt8 := [21, 5, 16, 8, 162, 0, 73, 21, 4, 2, 159, 0, 67, 42, 27, 182, 1, 48, 21, 5, 184, 0, 202]
abbrev dktX0_makesGlad_2 : List UInt8 := dkwX0_makesGlad_2 ++ dktX0_makesGlad_3
def dkwX0_makesGlad_1 : List UInt8 := [27, 160, 0, 7, 4, 167, 0, 4, 3, 172, 42, 42, 180, 0, 46, 182, 1, 44, 54, 4, 3, 54, 5]
abbrev dktX0_makesGlad_1 : List UInt8 := dkwX0_makesGlad_1 ++ dktX0_makesGlad_2
def dkwX0_makesGlad_0 : List UInt8 := [28, 29, 160, 0, 32, 42, 180, 0, 53, 42, 180, 0, 36, 42, 180, 0, 46, 27, 182, 1, 38, 180, 1, 11]
abbrev dktX0_makesGlad_0 : List UInt8 := dkwX0_makesGlad_0 ++ dktX0_makesGlad_1
theorem dksX0_makesGlad_0 : cX0_makesGlad.data.toList.drop 0 = dktX0_makesGlad_0 := by decide +kernel
theorem dksX0_makesGlad_1 : cX0_makesGlad.data.toList.drop 24 = dktX0_makesGlad_1 := dk_seg dksX0_makesGlad_0 24 rfl rfl
theorem dksX0_makesGlad_2 : cX0_makesGlad.data.toList.drop 47 = dktX0_makesGlad_2 := dk_seg dksX0_makesGlad_1 23 rfl rfl
theorem dksX0_makesGlad_3 : cX0_makesGlad.data.toList.drop 70 = dktX0_makesGlad_3 := dk_seg dksX0_makesGlad_2 23 rfl rfl
theorem dksX0_makesGlad_4 : cX0_makesGlad.data.toList.drop 94 = dktX0_makesGlad_4 := dk_seg dksX0_makesGlad_3 24 rfl rfl
theorem dksX0_makesGlad_5 : cX0_makesGlad.data.toList.drop 118 = dktX0_makesGlad_5 := dk_seg dksX0_makesGlad_4 24 rfl rfl
theorem dX0_makesGlad_0 : decode cX0_makesGlad 0 = .ok (.iload_n 2, 1) := dk_28 (dk_at dksX0_makesGlad_0 0 rfl rfl)
theorem dX0_makesGlad_1 : decode cX0_makesGlad 1 = .ok (.iload_n 3, 1) := dk_29 (dk_at dksX0_makesGlad_0 1 rfl rfl)
theorem dX0_makesGlad_2 : decode cX0_makesGlad 2 = .ok (.if_icmp .ne 32, 3) := dk_160 0 32 (dk_at dksX0_makesGlad_0 2 rfl rfl)
theorem dX0_makesGlad_5 : decode cX0_makesGlad 5 = .ok (.aload_n 0, 1) := dk_42 (dk_at dksX0_makesGlad_0 5 rfl rfl)
theorem dX0_makesGlad_6 : decode cX0_makesGlad 6 = .ok (.getfield 53, 3) := dk_180 0 53 (dk_at dksX0_makesGlad_0 6 rfl rfl)
theorem dX0_makesGlad_9 : decode cX0_makesGlad 9 = .ok (.aload_n 0, 1) := dk_42 (dk_at dksX0_makesGlad_0 9 rfl rfl)
theorem dX0_makesGlad_10 : decode cX0_makesGlad 10 = .ok (.getfield 36, 3) := dk_180 0 36 (dk_at dksX0_makesGlad_0 10 rfl rfl)
theorem dX0_makesGlad_13 : decode cX0_makesGlad 13 = .ok (.aload_n 0, 1) := dk_42 (dk_at dksX0_makesGlad_0 13 rfl rfl)
theorem dX0_makesGlad_14 : decode cX0_makesGlad 14 = .ok (.getfield 46, 3) := dk_180 0 46 (dk_at dksX0_makesGlad_0 14 rfl rfl)
theorem dX0_makesGlad_17 : decode cX0_makesGlad 17 = .ok (.iload_n 1, 1) := dk_27 (dk_at dksX0_makesGlad_0 17 rfl rfl)
theorem dX0_makesGlad_18 : decode cX0_makesGlad 18 = .ok (.invokevirtual 294, 3) := dk_182 1 38 (dk_at dksX0_makesGlad_0 18 rfl rfl)
theorem dX0_makesGlad_21 : decode cX0_makesGlad 21 = .ok (.getfield 267, 3) := dk_180 1 11 (dk_at dksX0_makesGlad_0 21 rfl rfl)
theorem dX0_makesGlad_24 : decode cX0_makesGlad 24 = .ok (.iload_n 1, 1) := dk_27 (dk_at dksX0_makesGlad_1 0 rfl rfl)
theorem dX0_makesGlad_25 : decode cX0_makesGlad 25 = .ok (.if_icmp .ne 7, 3) := dk_160 0 7 (dk_at dksX0_makesGlad_1 1 rfl rfl)
theorem dX0_makesGlad_28 : decode cX0_makesGlad 28 = .ok (.iconst 1, 1) := dk_4 (dk_at dksX0_makesGlad_1 4 rfl rfl)
theorem dX0_makesGlad_29 : decode cX0_makesGlad 29 = .ok (.goto 4, 3) := dk_167 0 4 (dk_at dksX0_makesGlad_1 5 rfl rfl)
theorem dX0_makesGlad_32 : decode cX0_makesGlad 32 = .ok (.iconst 0, 1) := dk_3 (dk_at dksX0_makesGlad_1 8 rfl rfl)
theorem dX0_makesGlad_33 : decode cX0_makesGlad 33 = .ok (.ireturn, 1) := dk_172 (dk_at dksX0_makesGlad_1 9 rfl rfl)
theorem dX0_makesGlad_34 : decode cX0_makesGlad 34 = .ok (.aload_n 0, 1) := dk_42 (dk_at dksX0_makesGlad_1 10 rfl rfl)
theorem dX0_makesGlad_35 : decode cX0_makesGlad 35 = .ok (.aload_n 0, 1) := dk_42 (dk_at dksX0_makesGlad_1 11 rfl rfl)
theorem dX0_makesGlad_36 : decode cX0_makesGlad 36 = .ok (.getfield 46, 3) := dk_180 0 46 (dk_at dksX0_makesGlad_1 12 rfl rfl)
theorem dX0_makesGlad_39 : decode cX0_makesGlad 39 = .ok (.invokevirtual 300, 3) := dk_182 1 44 (dk_at dksX0_makesGlad_1 15 rfl rfl)
theorem dX0_makesGlad_42 : decode cX0_makesGlad 42 = .ok (.istore 4, 2) := dk_54 4 (dk_at dksX0_makesGlad_1 18 rfl rfl)
theorem dX0_makesGlad_44 : decode cX0_makesGlad 44 = .ok (.iconst 0, 1) := dk_3 (dk_at dksX0_makesGlad_1 20 rfl rfl)
theorem dX0_makesGlad_45 : decode cX0_makesGlad 45 = .ok (.istore 5, 2) := dk_54 5 (dk_at dksX0_makesGlad_1 21 rfl rfl)
theorem dX0_makesGlad_47 : decode cX0_makesGlad 47 = .ok (.iload 5, 2) := dk_21 5 (dk_at dksX0_makesGlad_2 0 rfl rfl)
theorem dX0_makesGlad_49 : decode cX0_makesGlad 49 = .ok (.bipush 8, 2) := dk_16 8 (dk_at dksX0_makesGlad_2 2 rfl rfl)
theorem dX0_makesGlad_51 : decode cX0_makesGlad 51 = .ok (.if_icmp .ge 73, 3) := dk_162 0 73 (dk_at dksX0_makesGlad_2 4 rfl rfl)
theorem dX0_makesGlad_54 : decode cX0_makesGlad 54 = .ok (.iload 4, 2) := dk_21 4 (dk_at dksX0_makesGlad_2 7 rfl rfl)
theorem dX0_makesGlad_56 : decode cX0_makesGlad 56 = .ok (.iconst (-1), 1) := dk_2 (dk_at dksX0_makesGlad_2 9 rfl rfl)
theorem dX0_makesGlad_57 : decode cX0_makesGlad 57 = .ok (.if_icmp .eq 67, 3) := dk_159 0 67 (dk_at dksX0_makesGlad_2 10 rfl rfl)
theorem dX0_makesGlad_60 : decode cX0_makesGlad 60 = .ok (.aload_n 0, 1) := dk_42 (dk_at dksX0_makesGlad_2 13 rfl rfl)
theorem dX0_makesGlad_61 : decode cX0_makesGlad 61 = .ok (.iload_n 1, 1) := dk_27 (dk_at dksX0_makesGlad_2 14 rfl rfl)
theorem dX0_makesGlad_62 : decode cX0_makesGlad 62 = .ok (.invokevirtual 304, 3) := dk_182 1 48 (dk_at dksX0_makesGlad_2 15 rfl rfl)
theorem dX0_makesGlad_65 : decode cX0_makesGlad 65 = .ok (.iload 5, 2) := dk_21 5 (dk_at dksX0_makesGlad_2 18 rfl rfl)
theorem dX0_makesGlad_67 : decode cX0_makesGlad 67 = .ok (.invokestatic 202, 3) := dk_184 0 202 (dk_at dksX0_makesGlad_2 20 rfl rfl)
theorem dX0_makesGlad_70 : decode cX0_makesGlad 70 = .ok (.ifCond .eq 48, 3) := dk_153 0 48 (dk_at dksX0_makesGlad_3 0 rfl rfl)
theorem dX0_makesGlad_73 : decode cX0_makesGlad 73 = .ok (.aload_n 0, 1) := dk_42 (dk_at dksX0_makesGlad_3 3 rfl rfl)
theorem dX0_makesGlad_74 : decode cX0_makesGlad 74 = .ok (.getfield 57, 3) := dk_180 0 57 (dk_at dksX0_makesGlad_3 4 rfl rfl)
theorem dX0_makesGlad_77 : decode cX0_makesGlad 77 = .ok (.iload_n 2, 1) := dk_28 (dk_at dksX0_makesGlad_3 7 rfl rfl)
theorem dX0_makesGlad_78 : decode cX0_makesGlad 78 = .ok (.iload 5, 2) := dk_21 5 (dk_at dksX0_makesGlad_3 8 rfl rfl)
theorem dX0_makesGlad_80 : decode cX0_makesGlad 80 = .ok (.iastore, 1) := dk_79 (dk_at dksX0_makesGlad_3 10 rfl rfl)
theorem dX0_makesGlad_81 : decode cX0_makesGlad 81 = .ok (.aload_n 0, 1) := dk_42 (dk_at dksX0_makesGlad_3 11 rfl rfl)
theorem dX0_makesGlad_82 : decode cX0_makesGlad 82 = .ok (.getfield 46, 3) := dk_180 0 46 (dk_at dksX0_makesGlad_3 12 rfl rfl)
theorem dX0_makesGlad_85 : decode cX0_makesGlad 85 = .ok (.getfield 189, 3) := dk_180 0 189 (dk_at dksX0_makesGlad_3 15 rfl rfl)
theorem dX0_makesGlad_88 : decode cX0_makesGlad 88 = .ok (.iload 4, 2) := dk_21 4 (dk_at dksX0_makesGlad_3 18 rfl rfl)
theorem dX0_makesGlad_90 : decode cX0_makesGlad 90 = .ok (.iload 5, 2) := dk_21 5 (dk_at dksX0_makesGlad_3 20 rfl rfl)
theorem dX0_makesGlad_92 : decode cX0_makesGlad 92 = .ok (.iastore, 1) := dk_79 (dk_at dksX0_makesGlad_3 22 rfl rfl)
theorem dX0_makesGlad_93 : decode cX0_makesGlad 93 = .ok (.aload_n 0, 1) := dk_42 (dk_at dksX0_makesGlad_3 23 rfl rfl)
theorem dX0_makesGlad_94 : decode cX0_makesGlad 94 = .ok (.iload_n 1, 1) := dk_27 (dk_at dksX0_makesGlad_4 0 rfl rfl)
theorem dX0_makesGlad_95 : decode cX0_makesGlad 95 = .ok (.iload_n 2, 1) := dk_28 (dk_at dksX0_makesGlad_4 1 rfl rfl)
theorem dX0_makesGlad_96 : decode cX0_makesGlad 96 = .ok (.iconst 1, 1) := dk_4 (dk_at dksX0_makesGlad_4 2 rfl rfl)
theorem dX0_makesGlad_97 : decode cX0_makesGlad 97 = .ok (.iadd, 1) := dk_96 (dk_at dksX0_makesGlad_4 3 rfl rfl)
theorem dX0_makesGlad_98 : decode cX0_makesGlad 98 = .ok (.iload_n 3, 1) := dk_29 (dk_at dksX0_makesGlad_4 4 rfl rfl)
theorem dX0_makesGlad_99 : decode cX0_makesGlad 99 = .ok (.invokevirtual 307, 3) := dk_182 1 51 (dk_at dksX0_makesGlad_4 5 rfl rfl)
theorem dX0_makesGlad_102 : decode cX0_makesGlad 102 = .ok (.ifCond .eq 5, 3) := dk_153 0 5 (dk_at dksX0_makesGlad_4 8 rfl rfl)
theorem dX0_makesGlad_105 : decode cX0_makesGlad 105 = .ok (.iconst 1, 1) := dk_4 (dk_at dksX0_makesGlad_4 11 rfl rfl)
theorem dX0_makesGlad_106 : decode cX0_makesGlad 106 = .ok (.ireturn, 1) := dk_172 (dk_at dksX0_makesGlad_4 12 rfl rfl)
theorem dX0_makesGlad_107 : decode cX0_makesGlad 107 = .ok (.aload_n 0, 1) := dk_42 (dk_at dksX0_makesGlad_4 13 rfl rfl)
theorem dX0_makesGlad_108 : decode cX0_makesGlad 108 = .ok (.getfield 46, 3) := dk_180 0 46 (dk_at dksX0_makesGlad_4 14 rfl rfl)
theorem dX0_makesGlad_111 : decode cX0_makesGlad 111 = .ok (.getfield 189, 3) := dk_180 0 189 (dk_at dksX0_makesGlad_4 17 rfl rfl)
theorem dX0_makesGlad_114 : decode cX0_makesGlad 114 = .ok (.iload 4, 2) := dk_21 4 (dk_at dksX0_makesGlad_4 20 rfl rfl)
theorem dX0_makesGlad_116 : decode cX0_makesGlad 116 = .ok (.iconst (-1), 1) := dk_2 (dk_at dksX0_makesGlad_4 22 rfl rfl)
theorem dX0_makesGlad_117 : decode cX0_makesGlad 117 = .ok (.iastore, 1) := dk_79 (dk_at dksX0_makesGlad_4 23 rfl rfl)
theorem dX0_makesGlad_118 : decode cX0_makesGlad 118 = .ok (.iinc 5 1, 3) := dk_132 5 1 (dk_at dksX0_makesGlad_5 0 rfl rfl)
theorem dX0_makesGlad_121 : decode cX0_makesGlad 121 = .ok (.goto (-74), 3) := dk_167 255 182 (dk_at dksX0_makesGlad_5 3 rfl rfl)
theorem dX0_makesGlad_124 : decode cX0_makesGlad 124 = .ok (.iconst 0, 1) := dk_3 (dk_at dksX0_makesGlad_5 6 rfl rfl)
theorem dX0_makesGlad_125 : decode cX0_makesGlad 125 = .ok (.ireturn, 1) := dk_172 (dk_at dksX0_makesGlad_5 7 rfl rfl)
abbrev cX0_firstEmpty : ByteArray := prog_1_method_52_code
def yX0_firstEmpty : MethodName := ⟨RX0, "firstEmpty", "(LSeenInOrderOfAge$Panes;)I"⟩
def dkwX0_firstEmpty_1 : List UInt8 := [167, 255, 235, 2, 172]
abbrev dktX0_firstEmpty_1 : List UInt8 := dkwX0_firstEmpty_1 ++ []
def dkwX0_firstEmpty_0 : List UInt8 := [3, 61, 28, 16, 12, 162, 0, 21, 43, 180, 0, 189, 28, 46, 2, 160, 0, 5, 28, 172, 132, 2, 1]
abbrev dktX0_firstEmpty_0 : List UInt8 := dkwX0_firstEmpty_0 ++ dktX0_firstEmpty_1
theorem dksX0_firstEmpty_0 : cX0_firstEmpty.data.toList.drop 0 = dktX0_firstEmpty_0 := by decide +kernel
theorem dksX0_firstEmpty_1 : cX0_firstEmpty.data.toList.drop 23 = dktX0_firstEmpty_1 := dk_seg dksX0_firstEmpty_0 23 rfl rfl
theorem dX0_firstEmpty_0 : decode cX0_firstEmpty 0 = .ok (.iconst 0, 1) := dk_3 (dk_at dksX0_firstEmpty_0 0 rfl rfl)
theorem dX0_firstEmpty_1 : decode cX0_firstEmpty 1 = .ok (.istore_n 2, 1) := dk_61 (dk_at dksX0_firstEmpty_0 1 rfl rfl)
theorem dX0_firstEmpty_2 : decode cX0_firstEmpty 2 = .ok (.iload_n 2, 1) := dk_28 (dk_at dksX0_firstEmpty_0 2 rfl rfl)
theorem dX0_firstEmpty_3 : decode cX0_firstEmpty 3 = .ok (.bipush 12, 2) := dk_16 12 (dk_at dksX0_firstEmpty_0 3 rfl rfl)
theorem dX0_firstEmpty_5 : decode cX0_firstEmpty 5 = .ok (.if_icmp .ge 21, 3) := dk_162 0 21 (dk_at dksX0_firstEmpty_0 5 rfl rfl)
theorem dX0_firstEmpty_8 : decode cX0_firstEmpty 8 = .ok (.aload_n 1, 1) := dk_43 (dk_at dksX0_firstEmpty_0 8 rfl rfl)
theorem dX0_firstEmpty_9 : decode cX0_firstEmpty 9 = .ok (.getfield 189, 3) := dk_180 0 189 (dk_at dksX0_firstEmpty_0 9 rfl rfl)
theorem dX0_firstEmpty_12 : decode cX0_firstEmpty 12 = .ok (.iload_n 2, 1) := dk_28 (dk_at dksX0_firstEmpty_0 12 rfl rfl)
theorem dX0_firstEmpty_13 : decode cX0_firstEmpty 13 = .ok (.iaload, 1) := dk_46 (dk_at dksX0_firstEmpty_0 13 rfl rfl)
theorem dX0_firstEmpty_14 : decode cX0_firstEmpty 14 = .ok (.iconst (-1), 1) := dk_2 (dk_at dksX0_firstEmpty_0 14 rfl rfl)
theorem dX0_firstEmpty_15 : decode cX0_firstEmpty 15 = .ok (.if_icmp .ne 5, 3) := dk_160 0 5 (dk_at dksX0_firstEmpty_0 15 rfl rfl)
theorem dX0_firstEmpty_18 : decode cX0_firstEmpty 18 = .ok (.iload_n 2, 1) := dk_28 (dk_at dksX0_firstEmpty_0 18 rfl rfl)
theorem dX0_firstEmpty_19 : decode cX0_firstEmpty 19 = .ok (.ireturn, 1) := dk_172 (dk_at dksX0_firstEmpty_0 19 rfl rfl)
theorem dX0_firstEmpty_20 : decode cX0_firstEmpty 20 = .ok (.iinc 2 1, 3) := dk_132 2 1 (dk_at dksX0_firstEmpty_0 20 rfl rfl)
theorem dX0_firstEmpty_23 : decode cX0_firstEmpty 23 = .ok (.goto (-21), 3) := dk_167 255 235 (dk_at dksX0_firstEmpty_1 0 rfl rfl)
theorem dX0_firstEmpty_26 : decode cX0_firstEmpty 26 = .ok (.iconst (-1), 1) := dk_2 (dk_at dksX0_firstEmpty_1 3 rfl rfl)
theorem dX0_firstEmpty_27 : decode cX0_firstEmpty 27 = .ok (.ireturn, 1) := dk_172 (dk_at dksX0_firstEmpty_1 4 rfl rfl)
abbrev cX0_wanted : ByteArray := prog_1_method_53_code
def yX0_wanted : MethodName := ⟨RX0, "wanted", "(I)I"⟩
def dkwX0_wanted_2 : List UInt8 := [167, 255, 213, 28, 172]
abbrev dktX0_wanted_2 : List UInt8 := dkwX0_wanted_2 ++ []
def dkwX0_wanted_1 : List UInt8 := [4, 42, 180, 0, 36, 180, 0, 160, 29, 50, 180, 0, 241, 120, 167, 0, 4, 3, 128, 61, 132, 3, 1]
abbrev dktX0_wanted_1 : List UInt8 := dkwX0_wanted_1 ++ dktX0_wanted_2
def dkwX0_wanted_0 : List UInt8 := [3, 61, 3, 62, 29, 42, 180, 0, 36, 180, 0, 192, 162, 0, 38, 28, 27, 29, 184, 0, 202, 153, 0, 20]
abbrev dktX0_wanted_0 : List UInt8 := dkwX0_wanted_0 ++ dktX0_wanted_1
theorem dksX0_wanted_0 : cX0_wanted.data.toList.drop 0 = dktX0_wanted_0 := by decide +kernel
theorem dksX0_wanted_1 : cX0_wanted.data.toList.drop 24 = dktX0_wanted_1 := dk_seg dksX0_wanted_0 24 rfl rfl
theorem dksX0_wanted_2 : cX0_wanted.data.toList.drop 47 = dktX0_wanted_2 := dk_seg dksX0_wanted_1 23 rfl rfl
theorem dX0_wanted_0 : decode cX0_wanted 0 = .ok (.iconst 0, 1) := dk_3 (dk_at dksX0_wanted_0 0 rfl rfl)
theorem dX0_wanted_1 : decode cX0_wanted 1 = .ok (.istore_n 2, 1) := dk_61 (dk_at dksX0_wanted_0 1 rfl rfl)
theorem dX0_wanted_2 : decode cX0_wanted 2 = .ok (.iconst 0, 1) := dk_3 (dk_at dksX0_wanted_0 2 rfl rfl)
theorem dX0_wanted_3 : decode cX0_wanted 3 = .ok (.istore_n 3, 1) := dk_62 (dk_at dksX0_wanted_0 3 rfl rfl)
theorem dX0_wanted_4 : decode cX0_wanted 4 = .ok (.iload_n 3, 1) := dk_29 (dk_at dksX0_wanted_0 4 rfl rfl)
theorem dX0_wanted_5 : decode cX0_wanted 5 = .ok (.aload_n 0, 1) := dk_42 (dk_at dksX0_wanted_0 5 rfl rfl)
theorem dX0_wanted_6 : decode cX0_wanted 6 = .ok (.getfield 36, 3) := dk_180 0 36 (dk_at dksX0_wanted_0 6 rfl rfl)
theorem dX0_wanted_9 : decode cX0_wanted 9 = .ok (.getfield 192, 3) := dk_180 0 192 (dk_at dksX0_wanted_0 9 rfl rfl)
theorem dX0_wanted_12 : decode cX0_wanted 12 = .ok (.if_icmp .ge 38, 3) := dk_162 0 38 (dk_at dksX0_wanted_0 12 rfl rfl)
theorem dX0_wanted_15 : decode cX0_wanted 15 = .ok (.iload_n 2, 1) := dk_28 (dk_at dksX0_wanted_0 15 rfl rfl)
theorem dX0_wanted_16 : decode cX0_wanted 16 = .ok (.iload_n 1, 1) := dk_27 (dk_at dksX0_wanted_0 16 rfl rfl)
theorem dX0_wanted_17 : decode cX0_wanted 17 = .ok (.iload_n 3, 1) := dk_29 (dk_at dksX0_wanted_0 17 rfl rfl)
theorem dX0_wanted_18 : decode cX0_wanted 18 = .ok (.invokestatic 202, 3) := dk_184 0 202 (dk_at dksX0_wanted_0 18 rfl rfl)
theorem dX0_wanted_21 : decode cX0_wanted 21 = .ok (.ifCond .eq 20, 3) := dk_153 0 20 (dk_at dksX0_wanted_0 21 rfl rfl)
theorem dX0_wanted_24 : decode cX0_wanted 24 = .ok (.iconst 1, 1) := dk_4 (dk_at dksX0_wanted_1 0 rfl rfl)
theorem dX0_wanted_25 : decode cX0_wanted 25 = .ok (.aload_n 0, 1) := dk_42 (dk_at dksX0_wanted_1 1 rfl rfl)
theorem dX0_wanted_26 : decode cX0_wanted 26 = .ok (.getfield 36, 3) := dk_180 0 36 (dk_at dksX0_wanted_1 2 rfl rfl)
theorem dX0_wanted_29 : decode cX0_wanted 29 = .ok (.getfield 160, 3) := dk_180 0 160 (dk_at dksX0_wanted_1 5 rfl rfl)
theorem dX0_wanted_32 : decode cX0_wanted 32 = .ok (.iload_n 3, 1) := dk_29 (dk_at dksX0_wanted_1 8 rfl rfl)
theorem dX0_wanted_33 : decode cX0_wanted 33 = .ok (.aaload, 1) := dk_50 (dk_at dksX0_wanted_1 9 rfl rfl)
theorem dX0_wanted_34 : decode cX0_wanted 34 = .ok (.getfield 241, 3) := dk_180 0 241 (dk_at dksX0_wanted_1 10 rfl rfl)
theorem dX0_wanted_37 : decode cX0_wanted 37 = .ok (.ishl, 1) := dk_120 (dk_at dksX0_wanted_1 13 rfl rfl)
theorem dX0_wanted_38 : decode cX0_wanted 38 = .ok (.goto 4, 3) := dk_167 0 4 (dk_at dksX0_wanted_1 14 rfl rfl)
theorem dX0_wanted_41 : decode cX0_wanted 41 = .ok (.iconst 0, 1) := dk_3 (dk_at dksX0_wanted_1 17 rfl rfl)
theorem dX0_wanted_42 : decode cX0_wanted 42 = .ok (.ior, 1) := dk_128 (dk_at dksX0_wanted_1 18 rfl rfl)
theorem dX0_wanted_43 : decode cX0_wanted 43 = .ok (.istore_n 2, 1) := dk_61 (dk_at dksX0_wanted_1 19 rfl rfl)
theorem dX0_wanted_44 : decode cX0_wanted 44 = .ok (.iinc 3 1, 3) := dk_132 3 1 (dk_at dksX0_wanted_1 20 rfl rfl)
theorem dX0_wanted_47 : decode cX0_wanted 47 = .ok (.goto (-43), 3) := dk_167 255 213 (dk_at dksX0_wanted_2 0 rfl rfl)
theorem dX0_wanted_50 : decode cX0_wanted 50 = .ok (.iload_n 2, 1) := dk_28 (dk_at dksX0_wanted_2 3 rfl rfl)
theorem dX0_wanted_51 : decode cX0_wanted 51 = .ok (.ireturn, 1) := dk_172 (dk_at dksX0_wanted_2 4 rfl rfl)
abbrev cX0_who : ByteArray := prog_1_method_57_code
def yX0_who : MethodName := ⟨RX0, "who", "(II)I"⟩
def dkwX0_who_6 : List UInt8 := [167, 0, 13, 29, 154, 0, 7, 2, 167, 0, 5, 21, 5, 172]
abbrev dktX0_who_6 : List UInt8 := dkwX0_who_6 ++ []
def dkwX0_who_5 : List UInt8 := [154, 0, 7, 29, 167, 0, 33, 28, 4, 160, 0, 8, 21, 4, 167, 0, 23, 28, 6, 160, 0, 8, 21, 6]
abbrev dktX0_who_5 : List UInt8 := dkwX0_who_5 ++ dktX0_who_6
def dkwX0_who_4 : List UInt8 := [132, 3, 1, 21, 5, 21, 7, 126, 54, 5, 21, 6, 21, 7, 128, 54, 6, 132, 7, 1, 167, 255, 191, 28]
abbrev dktX0_who_4 : List UInt8 := dkwX0_who_4 ++ dktX0_who_5
def dkwX0_who_3 : List UInt8 := [182, 0, 164, 182, 0, 250, 27, 160, 0, 33, 29, 154, 0, 8, 21, 7, 167, 0, 5, 21, 4, 54, 4]
abbrev dktX0_who_3 : List UInt8 := dkwX0_who_3 ++ dktX0_who_4
def dkwX0_who_2 : List UInt8 := [21, 7, 42, 180, 0, 36, 182, 0, 80, 163, 0, 59, 42, 180, 0, 53, 42, 180, 0, 36, 21, 7]
abbrev dktX0_who_2 : List UInt8 := dkwX0_who_2 ++ dktX0_who_3
def dkwX0_who_1 : List UInt8 := [182, 0, 105, 172, 3, 62, 2, 54, 4, 42, 180, 0, 36, 182, 0, 80, 54, 5, 3, 54, 6, 3, 54, 7]
abbrev dktX0_who_1 : List UInt8 := dkwX0_who_1 ++ dktX0_who_2
def dkwX0_who_0 : List UInt8 := [27, 3, 17, 15, 255, 184, 0, 3, 153, 0, 12, 28, 3, 6, 184, 0, 3, 154, 0, 10, 42, 16, 254]
abbrev dktX0_who_0 : List UInt8 := dkwX0_who_0 ++ dktX0_who_1
theorem dksX0_who_0 : cX0_who.data.toList.drop 0 = dktX0_who_0 := by decide +kernel
theorem dksX0_who_1 : cX0_who.data.toList.drop 23 = dktX0_who_1 := dk_seg dksX0_who_0 23 rfl rfl
theorem dksX0_who_2 : cX0_who.data.toList.drop 47 = dktX0_who_2 := dk_seg dksX0_who_1 24 rfl rfl
theorem dksX0_who_3 : cX0_who.data.toList.drop 69 = dktX0_who_3 := dk_seg dksX0_who_2 22 rfl rfl
theorem dksX0_who_4 : cX0_who.data.toList.drop 92 = dktX0_who_4 := dk_seg dksX0_who_3 23 rfl rfl
theorem dksX0_who_5 : cX0_who.data.toList.drop 116 = dktX0_who_5 := dk_seg dksX0_who_4 24 rfl rfl
theorem dksX0_who_6 : cX0_who.data.toList.drop 140 = dktX0_who_6 := dk_seg dksX0_who_5 24 rfl rfl
theorem dX0_who_0 : decode cX0_who 0 = .ok (.iload_n 1, 1) := dk_27 (dk_at dksX0_who_0 0 rfl rfl)
theorem dX0_who_1 : decode cX0_who 1 = .ok (.iconst 0, 1) := dk_3 (dk_at dksX0_who_0 1 rfl rfl)
theorem dX0_who_2 : decode cX0_who 2 = .ok (.sipush 4095, 3) := dk_17 15 255 (dk_at dksX0_who_0 2 rfl rfl)
theorem dX0_who_5 : decode cX0_who 5 = .ok (.invokestatic 3, 3) := dk_184 0 3 (dk_at dksX0_who_0 5 rfl rfl)
theorem dX0_who_8 : decode cX0_who 8 = .ok (.ifCond .eq 12, 3) := dk_153 0 12 (dk_at dksX0_who_0 8 rfl rfl)
theorem dX0_who_11 : decode cX0_who 11 = .ok (.iload_n 2, 1) := dk_28 (dk_at dksX0_who_0 11 rfl rfl)
theorem dX0_who_12 : decode cX0_who 12 = .ok (.iconst 0, 1) := dk_3 (dk_at dksX0_who_0 12 rfl rfl)
theorem dX0_who_13 : decode cX0_who 13 = .ok (.iconst 3, 1) := dk_6 (dk_at dksX0_who_0 13 rfl rfl)
theorem dX0_who_14 : decode cX0_who 14 = .ok (.invokestatic 3, 3) := dk_184 0 3 (dk_at dksX0_who_0 14 rfl rfl)
theorem dX0_who_17 : decode cX0_who 17 = .ok (.ifCond .ne 10, 3) := dk_154 0 10 (dk_at dksX0_who_0 17 rfl rfl)
theorem dX0_who_20 : decode cX0_who 20 = .ok (.aload_n 0, 1) := dk_42 (dk_at dksX0_who_0 20 rfl rfl)
theorem dX0_who_21 : decode cX0_who 21 = .ok (.bipush (-2), 2) := dk_16 254 (dk_at dksX0_who_0 21 rfl rfl)
theorem dX0_who_23 : decode cX0_who 23 = .ok (.invokevirtual 105, 3) := dk_182 0 105 (dk_at dksX0_who_1 0 rfl rfl)
theorem dX0_who_26 : decode cX0_who 26 = .ok (.ireturn, 1) := dk_172 (dk_at dksX0_who_1 3 rfl rfl)
theorem dX0_who_27 : decode cX0_who 27 = .ok (.iconst 0, 1) := dk_3 (dk_at dksX0_who_1 4 rfl rfl)
theorem dX0_who_28 : decode cX0_who 28 = .ok (.istore_n 3, 1) := dk_62 (dk_at dksX0_who_1 5 rfl rfl)
theorem dX0_who_29 : decode cX0_who 29 = .ok (.iconst (-1), 1) := dk_2 (dk_at dksX0_who_1 6 rfl rfl)
theorem dX0_who_30 : decode cX0_who 30 = .ok (.istore 4, 2) := dk_54 4 (dk_at dksX0_who_1 7 rfl rfl)
theorem dX0_who_32 : decode cX0_who 32 = .ok (.aload_n 0, 1) := dk_42 (dk_at dksX0_who_1 9 rfl rfl)
theorem dX0_who_33 : decode cX0_who 33 = .ok (.getfield 36, 3) := dk_180 0 36 (dk_at dksX0_who_1 10 rfl rfl)
theorem dX0_who_36 : decode cX0_who 36 = .ok (.invokevirtual 80, 3) := dk_182 0 80 (dk_at dksX0_who_1 13 rfl rfl)
theorem dX0_who_39 : decode cX0_who 39 = .ok (.istore 5, 2) := dk_54 5 (dk_at dksX0_who_1 16 rfl rfl)
theorem dX0_who_41 : decode cX0_who 41 = .ok (.iconst 0, 1) := dk_3 (dk_at dksX0_who_1 18 rfl rfl)
theorem dX0_who_42 : decode cX0_who 42 = .ok (.istore 6, 2) := dk_54 6 (dk_at dksX0_who_1 19 rfl rfl)
theorem dX0_who_44 : decode cX0_who 44 = .ok (.iconst 0, 1) := dk_3 (dk_at dksX0_who_1 21 rfl rfl)
theorem dX0_who_45 : decode cX0_who 45 = .ok (.istore 7, 2) := dk_54 7 (dk_at dksX0_who_1 22 rfl rfl)
theorem dX0_who_47 : decode cX0_who 47 = .ok (.iload 7, 2) := dk_21 7 (dk_at dksX0_who_2 0 rfl rfl)
theorem dX0_who_49 : decode cX0_who 49 = .ok (.aload_n 0, 1) := dk_42 (dk_at dksX0_who_2 2 rfl rfl)
theorem dX0_who_50 : decode cX0_who 50 = .ok (.getfield 36, 3) := dk_180 0 36 (dk_at dksX0_who_2 3 rfl rfl)
theorem dX0_who_53 : decode cX0_who 53 = .ok (.invokevirtual 80, 3) := dk_182 0 80 (dk_at dksX0_who_2 6 rfl rfl)
theorem dX0_who_56 : decode cX0_who 56 = .ok (.if_icmp .gt 59, 3) := dk_163 0 59 (dk_at dksX0_who_2 9 rfl rfl)
theorem dX0_who_59 : decode cX0_who 59 = .ok (.aload_n 0, 1) := dk_42 (dk_at dksX0_who_2 12 rfl rfl)
theorem dX0_who_60 : decode cX0_who 60 = .ok (.getfield 53, 3) := dk_180 0 53 (dk_at dksX0_who_2 13 rfl rfl)
theorem dX0_who_63 : decode cX0_who 63 = .ok (.aload_n 0, 1) := dk_42 (dk_at dksX0_who_2 16 rfl rfl)
theorem dX0_who_64 : decode cX0_who 64 = .ok (.getfield 36, 3) := dk_180 0 36 (dk_at dksX0_who_2 17 rfl rfl)
theorem dX0_who_67 : decode cX0_who 67 = .ok (.iload 7, 2) := dk_21 7 (dk_at dksX0_who_2 20 rfl rfl)
theorem dX0_who_69 : decode cX0_who 69 = .ok (.invokevirtual 164, 3) := dk_182 0 164 (dk_at dksX0_who_3 0 rfl rfl)
theorem dX0_who_72 : decode cX0_who 72 = .ok (.invokevirtual 250, 3) := dk_182 0 250 (dk_at dksX0_who_3 3 rfl rfl)
theorem dX0_who_75 : decode cX0_who 75 = .ok (.iload_n 1, 1) := dk_27 (dk_at dksX0_who_3 6 rfl rfl)
theorem dX0_who_76 : decode cX0_who 76 = .ok (.if_icmp .ne 33, 3) := dk_160 0 33 (dk_at dksX0_who_3 7 rfl rfl)
theorem dX0_who_79 : decode cX0_who 79 = .ok (.iload_n 3, 1) := dk_29 (dk_at dksX0_who_3 10 rfl rfl)
theorem dX0_who_80 : decode cX0_who 80 = .ok (.ifCond .ne 8, 3) := dk_154 0 8 (dk_at dksX0_who_3 11 rfl rfl)
theorem dX0_who_83 : decode cX0_who 83 = .ok (.iload 7, 2) := dk_21 7 (dk_at dksX0_who_3 14 rfl rfl)
theorem dX0_who_85 : decode cX0_who 85 = .ok (.goto 5, 3) := dk_167 0 5 (dk_at dksX0_who_3 16 rfl rfl)
theorem dX0_who_88 : decode cX0_who 88 = .ok (.iload 4, 2) := dk_21 4 (dk_at dksX0_who_3 19 rfl rfl)
theorem dX0_who_90 : decode cX0_who 90 = .ok (.istore 4, 2) := dk_54 4 (dk_at dksX0_who_3 21 rfl rfl)
theorem dX0_who_92 : decode cX0_who 92 = .ok (.iinc 3 1, 3) := dk_132 3 1 (dk_at dksX0_who_4 0 rfl rfl)
theorem dX0_who_95 : decode cX0_who 95 = .ok (.iload 5, 2) := dk_21 5 (dk_at dksX0_who_4 3 rfl rfl)
theorem dX0_who_97 : decode cX0_who 97 = .ok (.iload 7, 2) := dk_21 7 (dk_at dksX0_who_4 5 rfl rfl)
theorem dX0_who_99 : decode cX0_who 99 = .ok (.iand, 1) := dk_126 (dk_at dksX0_who_4 7 rfl rfl)
theorem dX0_who_100 : decode cX0_who 100 = .ok (.istore 5, 2) := dk_54 5 (dk_at dksX0_who_4 8 rfl rfl)
theorem dX0_who_102 : decode cX0_who 102 = .ok (.iload 6, 2) := dk_21 6 (dk_at dksX0_who_4 10 rfl rfl)
theorem dX0_who_104 : decode cX0_who 104 = .ok (.iload 7, 2) := dk_21 7 (dk_at dksX0_who_4 12 rfl rfl)
theorem dX0_who_106 : decode cX0_who 106 = .ok (.ior, 1) := dk_128 (dk_at dksX0_who_4 14 rfl rfl)
theorem dX0_who_107 : decode cX0_who 107 = .ok (.istore 6, 2) := dk_54 6 (dk_at dksX0_who_4 15 rfl rfl)
theorem dX0_who_109 : decode cX0_who 109 = .ok (.iinc 7 1, 3) := dk_132 7 1 (dk_at dksX0_who_4 17 rfl rfl)
theorem dX0_who_112 : decode cX0_who 112 = .ok (.goto (-65), 3) := dk_167 255 191 (dk_at dksX0_who_4 20 rfl rfl)
theorem dX0_who_115 : decode cX0_who 115 = .ok (.iload_n 2, 1) := dk_28 (dk_at dksX0_who_4 23 rfl rfl)
theorem dX0_who_116 : decode cX0_who 116 = .ok (.ifCond .ne 7, 3) := dk_154 0 7 (dk_at dksX0_who_5 0 rfl rfl)
theorem dX0_who_119 : decode cX0_who 119 = .ok (.iload_n 3, 1) := dk_29 (dk_at dksX0_who_5 3 rfl rfl)
theorem dX0_who_120 : decode cX0_who 120 = .ok (.goto 33, 3) := dk_167 0 33 (dk_at dksX0_who_5 4 rfl rfl)
theorem dX0_who_123 : decode cX0_who 123 = .ok (.iload_n 2, 1) := dk_28 (dk_at dksX0_who_5 7 rfl rfl)
theorem dX0_who_124 : decode cX0_who 124 = .ok (.iconst 1, 1) := dk_4 (dk_at dksX0_who_5 8 rfl rfl)
theorem dX0_who_125 : decode cX0_who 125 = .ok (.if_icmp .ne 8, 3) := dk_160 0 8 (dk_at dksX0_who_5 9 rfl rfl)
theorem dX0_who_128 : decode cX0_who 128 = .ok (.iload 4, 2) := dk_21 4 (dk_at dksX0_who_5 12 rfl rfl)
theorem dX0_who_130 : decode cX0_who 130 = .ok (.goto 23, 3) := dk_167 0 23 (dk_at dksX0_who_5 14 rfl rfl)
theorem dX0_who_133 : decode cX0_who 133 = .ok (.iload_n 2, 1) := dk_28 (dk_at dksX0_who_5 17 rfl rfl)
theorem dX0_who_134 : decode cX0_who 134 = .ok (.iconst 3, 1) := dk_6 (dk_at dksX0_who_5 18 rfl rfl)
theorem dX0_who_135 : decode cX0_who 135 = .ok (.if_icmp .ne 8, 3) := dk_160 0 8 (dk_at dksX0_who_5 19 rfl rfl)
theorem dX0_who_138 : decode cX0_who 138 = .ok (.iload 6, 2) := dk_21 6 (dk_at dksX0_who_5 22 rfl rfl)
theorem dX0_who_140 : decode cX0_who 140 = .ok (.goto 13, 3) := dk_167 0 13 (dk_at dksX0_who_6 0 rfl rfl)
theorem dX0_who_143 : decode cX0_who 143 = .ok (.iload_n 3, 1) := dk_29 (dk_at dksX0_who_6 3 rfl rfl)
theorem dX0_who_144 : decode cX0_who 144 = .ok (.ifCond .ne 7, 3) := dk_154 0 7 (dk_at dksX0_who_6 4 rfl rfl)
theorem dX0_who_147 : decode cX0_who 147 = .ok (.iconst (-1), 1) := dk_2 (dk_at dksX0_who_6 7 rfl rfl)
theorem dX0_who_148 : decode cX0_who 148 = .ok (.goto 5, 3) := dk_167 0 5 (dk_at dksX0_who_6 8 rfl rfl)
theorem dX0_who_151 : decode cX0_who 151 = .ok (.iload 5, 2) := dk_21 5 (dk_at dksX0_who_6 11 rfl rfl)
theorem dX0_who_153 : decode cX0_who 153 = .ok (.ireturn, 1) := dk_172 (dk_at dksX0_who_6 13 rfl rfl)
abbrev cX0_kinds : ByteArray := prog_1_method_59_code
def yX0_kinds : MethodName := ⟨RX0, "kinds", "(IIII)I"⟩
def dkwX0_kinds_7 : List UInt8 := [21, 7, 172]
abbrev dktX0_kinds_7 : List UInt8 := dkwX0_kinds_7 ++ []
def dkwX0_kinds_6 : List UInt8 := [21, 7, 21, 9, 153, 0, 10, 4, 21, 8, 120, 167, 0, 4, 3, 128, 54, 7, 132, 8, 1, 167, 255, 179]
abbrev dktX0_kinds_6 : List UInt8 := dkwX0_kinds_6 ++ dktX0_kinds_7
def dkwX0_kinds_5 : List UInt8 := [182, 0, 238, 21, 4, 154, 0, 11, 25, 6, 180, 0, 241, 167, 0, 5, 21, 8, 182, 1, 61, 54, 9]
abbrev dktX0_kinds_5 : List UInt8 := dkwX0_kinds_5 ++ dktX0_kinds_6
def dkwX0_kinds_4 : List UInt8 := [167, 0, 5, 16, 8, 162, 0, 66, 42, 27, 28, 29, 21, 4, 154, 0, 8, 21, 8, 167, 0, 8, 25, 6]
abbrev dktX0_kinds_4 : List UInt8 := dkwX0_kinds_4 ++ dktX0_kinds_5
def dkwX0_kinds_3 : List UInt8 := [180, 0, 160, 28, 50, 58, 6, 3, 54, 7, 3, 54, 8, 21, 8, 21, 4, 154, 0, 8, 16, 6]
abbrev dktX0_kinds_3 : List UInt8 := dkwX0_kinds_3 ++ dktX0_kinds_4
def dkwX0_kinds_2 : List UInt8 := [153, 0, 13, 21, 4, 3, 4, 184, 0, 3, 154, 0, 10, 42, 16, 254, 182, 0, 105, 172, 42, 180, 0, 36]
abbrev dktX0_kinds_2 : List UInt8 := dkwX0_kinds_2 ++ dktX0_kinds_3
def dkwX0_kinds_1 : List UInt8 := [153, 0, 18, 29, 3, 17, 15, 255, 184, 0, 3, 153, 0, 7, 4, 167, 0, 4, 3, 54, 5, 21, 5]
abbrev dktX0_kinds_1 : List UInt8 := dkwX0_kinds_1 ++ dktX0_kinds_2
def dkwX0_kinds_0 : List UInt8 := [42, 27, 182, 0, 247, 153, 0, 37, 42, 180, 0, 36, 28, 182, 0, 157, 153, 0, 26, 27, 28, 184, 0, 202]
abbrev dktX0_kinds_0 : List UInt8 := dkwX0_kinds_0 ++ dktX0_kinds_1
theorem dksX0_kinds_0 : cX0_kinds.data.toList.drop 0 = dktX0_kinds_0 := by decide +kernel
theorem dksX0_kinds_1 : cX0_kinds.data.toList.drop 24 = dktX0_kinds_1 := dk_seg dksX0_kinds_0 24 rfl rfl
theorem dksX0_kinds_2 : cX0_kinds.data.toList.drop 47 = dktX0_kinds_2 := dk_seg dksX0_kinds_1 23 rfl rfl
theorem dksX0_kinds_3 : cX0_kinds.data.toList.drop 71 = dktX0_kinds_3 := dk_seg dksX0_kinds_2 24 rfl rfl
theorem dksX0_kinds_4 : cX0_kinds.data.toList.drop 93 = dktX0_kinds_4 := dk_seg dksX0_kinds_3 22 rfl rfl
theorem dksX0_kinds_5 : cX0_kinds.data.toList.drop 117 = dktX0_kinds_5 := dk_seg dksX0_kinds_4 24 rfl rfl
theorem dksX0_kinds_6 : cX0_kinds.data.toList.drop 140 = dktX0_kinds_6 := dk_seg dksX0_kinds_5 23 rfl rfl
theorem dksX0_kinds_7 : cX0_kinds.data.toList.drop 164 = dktX0_kinds_7 := dk_seg dksX0_kinds_6 24 rfl rfl
theorem dX0_kinds_0 : decode cX0_kinds 0 = .ok (.aload_n 0, 1) := dk_42 (dk_at dksX0_kinds_0 0 rfl rfl)
theorem dX0_kinds_1 : decode cX0_kinds 1 = .ok (.iload_n 1, 1) := dk_27 (dk_at dksX0_kinds_0 1 rfl rfl)
theorem dX0_kinds_2 : decode cX0_kinds 2 = .ok (.invokevirtual 247, 3) := dk_182 0 247 (dk_at dksX0_kinds_0 2 rfl rfl)
theorem dX0_kinds_5 : decode cX0_kinds 5 = .ok (.ifCond .eq 37, 3) := dk_153 0 37 (dk_at dksX0_kinds_0 5 rfl rfl)
theorem dX0_kinds_8 : decode cX0_kinds 8 = .ok (.aload_n 0, 1) := dk_42 (dk_at dksX0_kinds_0 8 rfl rfl)
theorem dX0_kinds_9 : decode cX0_kinds 9 = .ok (.getfield 36, 3) := dk_180 0 36 (dk_at dksX0_kinds_0 9 rfl rfl)
theorem dX0_kinds_12 : decode cX0_kinds 12 = .ok (.iload_n 2, 1) := dk_28 (dk_at dksX0_kinds_0 12 rfl rfl)
theorem dX0_kinds_13 : decode cX0_kinds 13 = .ok (.invokevirtual 157, 3) := dk_182 0 157 (dk_at dksX0_kinds_0 13 rfl rfl)
theorem dX0_kinds_16 : decode cX0_kinds 16 = .ok (.ifCond .eq 26, 3) := dk_153 0 26 (dk_at dksX0_kinds_0 16 rfl rfl)
theorem dX0_kinds_19 : decode cX0_kinds 19 = .ok (.iload_n 1, 1) := dk_27 (dk_at dksX0_kinds_0 19 rfl rfl)
theorem dX0_kinds_20 : decode cX0_kinds 20 = .ok (.iload_n 2, 1) := dk_28 (dk_at dksX0_kinds_0 20 rfl rfl)
theorem dX0_kinds_21 : decode cX0_kinds 21 = .ok (.invokestatic 202, 3) := dk_184 0 202 (dk_at dksX0_kinds_0 21 rfl rfl)
theorem dX0_kinds_24 : decode cX0_kinds 24 = .ok (.ifCond .eq 18, 3) := dk_153 0 18 (dk_at dksX0_kinds_1 0 rfl rfl)
theorem dX0_kinds_27 : decode cX0_kinds 27 = .ok (.iload_n 3, 1) := dk_29 (dk_at dksX0_kinds_1 3 rfl rfl)
theorem dX0_kinds_28 : decode cX0_kinds 28 = .ok (.iconst 0, 1) := dk_3 (dk_at dksX0_kinds_1 4 rfl rfl)
theorem dX0_kinds_29 : decode cX0_kinds 29 = .ok (.sipush 4095, 3) := dk_17 15 255 (dk_at dksX0_kinds_1 5 rfl rfl)
theorem dX0_kinds_32 : decode cX0_kinds 32 = .ok (.invokestatic 3, 3) := dk_184 0 3 (dk_at dksX0_kinds_1 8 rfl rfl)
theorem dX0_kinds_35 : decode cX0_kinds 35 = .ok (.ifCond .eq 7, 3) := dk_153 0 7 (dk_at dksX0_kinds_1 11 rfl rfl)
theorem dX0_kinds_38 : decode cX0_kinds 38 = .ok (.iconst 1, 1) := dk_4 (dk_at dksX0_kinds_1 14 rfl rfl)
theorem dX0_kinds_39 : decode cX0_kinds 39 = .ok (.goto 4, 3) := dk_167 0 4 (dk_at dksX0_kinds_1 15 rfl rfl)
theorem dX0_kinds_42 : decode cX0_kinds 42 = .ok (.iconst 0, 1) := dk_3 (dk_at dksX0_kinds_1 18 rfl rfl)
theorem dX0_kinds_43 : decode cX0_kinds 43 = .ok (.istore 5, 2) := dk_54 5 (dk_at dksX0_kinds_1 19 rfl rfl)
theorem dX0_kinds_45 : decode cX0_kinds 45 = .ok (.iload 5, 2) := dk_21 5 (dk_at dksX0_kinds_1 21 rfl rfl)
theorem dX0_kinds_47 : decode cX0_kinds 47 = .ok (.ifCond .eq 13, 3) := dk_153 0 13 (dk_at dksX0_kinds_2 0 rfl rfl)
theorem dX0_kinds_50 : decode cX0_kinds 50 = .ok (.iload 4, 2) := dk_21 4 (dk_at dksX0_kinds_2 3 rfl rfl)
theorem dX0_kinds_52 : decode cX0_kinds 52 = .ok (.iconst 0, 1) := dk_3 (dk_at dksX0_kinds_2 5 rfl rfl)
theorem dX0_kinds_53 : decode cX0_kinds 53 = .ok (.iconst 1, 1) := dk_4 (dk_at dksX0_kinds_2 6 rfl rfl)
theorem dX0_kinds_54 : decode cX0_kinds 54 = .ok (.invokestatic 3, 3) := dk_184 0 3 (dk_at dksX0_kinds_2 7 rfl rfl)
theorem dX0_kinds_57 : decode cX0_kinds 57 = .ok (.ifCond .ne 10, 3) := dk_154 0 10 (dk_at dksX0_kinds_2 10 rfl rfl)
theorem dX0_kinds_60 : decode cX0_kinds 60 = .ok (.aload_n 0, 1) := dk_42 (dk_at dksX0_kinds_2 13 rfl rfl)
theorem dX0_kinds_61 : decode cX0_kinds 61 = .ok (.bipush (-2), 2) := dk_16 254 (dk_at dksX0_kinds_2 14 rfl rfl)
theorem dX0_kinds_63 : decode cX0_kinds 63 = .ok (.invokevirtual 105, 3) := dk_182 0 105 (dk_at dksX0_kinds_2 16 rfl rfl)
theorem dX0_kinds_66 : decode cX0_kinds 66 = .ok (.ireturn, 1) := dk_172 (dk_at dksX0_kinds_2 19 rfl rfl)
theorem dX0_kinds_67 : decode cX0_kinds 67 = .ok (.aload_n 0, 1) := dk_42 (dk_at dksX0_kinds_2 20 rfl rfl)
theorem dX0_kinds_68 : decode cX0_kinds 68 = .ok (.getfield 36, 3) := dk_180 0 36 (dk_at dksX0_kinds_2 21 rfl rfl)
theorem dX0_kinds_71 : decode cX0_kinds 71 = .ok (.getfield 160, 3) := dk_180 0 160 (dk_at dksX0_kinds_3 0 rfl rfl)
theorem dX0_kinds_74 : decode cX0_kinds 74 = .ok (.iload_n 2, 1) := dk_28 (dk_at dksX0_kinds_3 3 rfl rfl)
theorem dX0_kinds_75 : decode cX0_kinds 75 = .ok (.aaload, 1) := dk_50 (dk_at dksX0_kinds_3 4 rfl rfl)
theorem dX0_kinds_76 : decode cX0_kinds 76 = .ok (.astore 6, 2) := dk_58 6 (dk_at dksX0_kinds_3 5 rfl rfl)
theorem dX0_kinds_78 : decode cX0_kinds 78 = .ok (.iconst 0, 1) := dk_3 (dk_at dksX0_kinds_3 7 rfl rfl)
theorem dX0_kinds_79 : decode cX0_kinds 79 = .ok (.istore 7, 2) := dk_54 7 (dk_at dksX0_kinds_3 8 rfl rfl)
theorem dX0_kinds_81 : decode cX0_kinds 81 = .ok (.iconst 0, 1) := dk_3 (dk_at dksX0_kinds_3 10 rfl rfl)
theorem dX0_kinds_82 : decode cX0_kinds 82 = .ok (.istore 8, 2) := dk_54 8 (dk_at dksX0_kinds_3 11 rfl rfl)
theorem dX0_kinds_84 : decode cX0_kinds 84 = .ok (.iload 8, 2) := dk_21 8 (dk_at dksX0_kinds_3 13 rfl rfl)
theorem dX0_kinds_86 : decode cX0_kinds 86 = .ok (.iload 4, 2) := dk_21 4 (dk_at dksX0_kinds_3 15 rfl rfl)
theorem dX0_kinds_88 : decode cX0_kinds 88 = .ok (.ifCond .ne 8, 3) := dk_154 0 8 (dk_at dksX0_kinds_3 17 rfl rfl)
theorem dX0_kinds_91 : decode cX0_kinds 91 = .ok (.bipush 6, 2) := dk_16 6 (dk_at dksX0_kinds_3 20 rfl rfl)
theorem dX0_kinds_93 : decode cX0_kinds 93 = .ok (.goto 5, 3) := dk_167 0 5 (dk_at dksX0_kinds_4 0 rfl rfl)
theorem dX0_kinds_96 : decode cX0_kinds 96 = .ok (.bipush 8, 2) := dk_16 8 (dk_at dksX0_kinds_4 3 rfl rfl)
theorem dX0_kinds_98 : decode cX0_kinds 98 = .ok (.if_icmp .ge 66, 3) := dk_162 0 66 (dk_at dksX0_kinds_4 5 rfl rfl)
theorem dX0_kinds_101 : decode cX0_kinds 101 = .ok (.aload_n 0, 1) := dk_42 (dk_at dksX0_kinds_4 8 rfl rfl)
theorem dX0_kinds_102 : decode cX0_kinds 102 = .ok (.iload_n 1, 1) := dk_27 (dk_at dksX0_kinds_4 9 rfl rfl)
theorem dX0_kinds_103 : decode cX0_kinds 103 = .ok (.iload_n 2, 1) := dk_28 (dk_at dksX0_kinds_4 10 rfl rfl)
theorem dX0_kinds_104 : decode cX0_kinds 104 = .ok (.iload_n 3, 1) := dk_29 (dk_at dksX0_kinds_4 11 rfl rfl)
theorem dX0_kinds_105 : decode cX0_kinds 105 = .ok (.iload 4, 2) := dk_21 4 (dk_at dksX0_kinds_4 12 rfl rfl)
theorem dX0_kinds_107 : decode cX0_kinds 107 = .ok (.ifCond .ne 8, 3) := dk_154 0 8 (dk_at dksX0_kinds_4 14 rfl rfl)
theorem dX0_kinds_110 : decode cX0_kinds 110 = .ok (.iload 8, 2) := dk_21 8 (dk_at dksX0_kinds_4 17 rfl rfl)
theorem dX0_kinds_112 : decode cX0_kinds 112 = .ok (.goto 8, 3) := dk_167 0 8 (dk_at dksX0_kinds_4 19 rfl rfl)
theorem dX0_kinds_115 : decode cX0_kinds 115 = .ok (.aload 6, 2) := dk_25 6 (dk_at dksX0_kinds_4 22 rfl rfl)
theorem dX0_kinds_117 : decode cX0_kinds 117 = .ok (.invokevirtual 238, 3) := dk_182 0 238 (dk_at dksX0_kinds_5 0 rfl rfl)
theorem dX0_kinds_120 : decode cX0_kinds 120 = .ok (.iload 4, 2) := dk_21 4 (dk_at dksX0_kinds_5 3 rfl rfl)
theorem dX0_kinds_122 : decode cX0_kinds 122 = .ok (.ifCond .ne 11, 3) := dk_154 0 11 (dk_at dksX0_kinds_5 5 rfl rfl)
theorem dX0_kinds_125 : decode cX0_kinds 125 = .ok (.aload 6, 2) := dk_25 6 (dk_at dksX0_kinds_5 8 rfl rfl)
theorem dX0_kinds_127 : decode cX0_kinds 127 = .ok (.getfield 241, 3) := dk_180 0 241 (dk_at dksX0_kinds_5 10 rfl rfl)
theorem dX0_kinds_130 : decode cX0_kinds 130 = .ok (.goto 5, 3) := dk_167 0 5 (dk_at dksX0_kinds_5 13 rfl rfl)
theorem dX0_kinds_133 : decode cX0_kinds 133 = .ok (.iload 8, 2) := dk_21 8 (dk_at dksX0_kinds_5 16 rfl rfl)
theorem dX0_kinds_135 : decode cX0_kinds 135 = .ok (.invokevirtual 317, 3) := dk_182 1 61 (dk_at dksX0_kinds_5 18 rfl rfl)
theorem dX0_kinds_138 : decode cX0_kinds 138 = .ok (.istore 9, 2) := dk_54 9 (dk_at dksX0_kinds_5 21 rfl rfl)
theorem dX0_kinds_140 : decode cX0_kinds 140 = .ok (.iload 7, 2) := dk_21 7 (dk_at dksX0_kinds_6 0 rfl rfl)
theorem dX0_kinds_142 : decode cX0_kinds 142 = .ok (.iload 9, 2) := dk_21 9 (dk_at dksX0_kinds_6 2 rfl rfl)
theorem dX0_kinds_144 : decode cX0_kinds 144 = .ok (.ifCond .eq 10, 3) := dk_153 0 10 (dk_at dksX0_kinds_6 4 rfl rfl)
theorem dX0_kinds_147 : decode cX0_kinds 147 = .ok (.iconst 1, 1) := dk_4 (dk_at dksX0_kinds_6 7 rfl rfl)
theorem dX0_kinds_148 : decode cX0_kinds 148 = .ok (.iload 8, 2) := dk_21 8 (dk_at dksX0_kinds_6 8 rfl rfl)
theorem dX0_kinds_150 : decode cX0_kinds 150 = .ok (.ishl, 1) := dk_120 (dk_at dksX0_kinds_6 10 rfl rfl)
theorem dX0_kinds_151 : decode cX0_kinds 151 = .ok (.goto 4, 3) := dk_167 0 4 (dk_at dksX0_kinds_6 11 rfl rfl)
theorem dX0_kinds_154 : decode cX0_kinds 154 = .ok (.iconst 0, 1) := dk_3 (dk_at dksX0_kinds_6 14 rfl rfl)
theorem dX0_kinds_155 : decode cX0_kinds 155 = .ok (.ior, 1) := dk_128 (dk_at dksX0_kinds_6 15 rfl rfl)
theorem dX0_kinds_156 : decode cX0_kinds 156 = .ok (.istore 7, 2) := dk_54 7 (dk_at dksX0_kinds_6 16 rfl rfl)
theorem dX0_kinds_158 : decode cX0_kinds 158 = .ok (.iinc 8 1, 3) := dk_132 8 1 (dk_at dksX0_kinds_6 18 rfl rfl)
theorem dX0_kinds_161 : decode cX0_kinds 161 = .ok (.goto (-77), 3) := dk_167 255 179 (dk_at dksX0_kinds_6 21 rfl rfl)
theorem dX0_kinds_164 : decode cX0_kinds 164 = .ok (.iload 7, 2) := dk_21 7 (dk_at dksX0_kinds_7 0 rfl rfl)
theorem dX0_kinds_166 : decode cX0_kinds 166 = .ok (.ireturn, 1) := dk_172 (dk_at dksX0_kinds_7 2 rfl rfl)
abbrev cX0_wouldTake : ByteArray := prog_1_method_58_code
def yX0_wouldTake : MethodName := ⟨RX0, "wouldTake", "(IIIII)Z"⟩
def dkwX0_wouldTake_1 : List UInt8 := [180, 0, 53, 25, 6, 27, 182, 0, 164, 180, 0, 168, 28, 46, 29, 160, 0, 7, 4, 167, 0, 4, 3, 172]
abbrev dktX0_wouldTake_1 : List UInt8 := dkwX0_wouldTake_1 ++ []
def dkwX0_wouldTake_0 : List UInt8 := [42, 182, 1, 29, 58, 6, 25, 6, 180, 0, 160, 28, 21, 4, 28, 21, 5, 184, 1, 57, 83, 42]
abbrev dktX0_wouldTake_0 : List UInt8 := dkwX0_wouldTake_0 ++ dktX0_wouldTake_1
theorem dksX0_wouldTake_0 : cX0_wouldTake.data.toList.drop 0 = dktX0_wouldTake_0 := by decide +kernel
theorem dksX0_wouldTake_1 : cX0_wouldTake.data.toList.drop 22 = dktX0_wouldTake_1 := dk_seg dksX0_wouldTake_0 22 rfl rfl
theorem dX0_wouldTake_0 : decode cX0_wouldTake 0 = .ok (.aload_n 0, 1) := dk_42 (dk_at dksX0_wouldTake_0 0 rfl rfl)
theorem dX0_wouldTake_1 : decode cX0_wouldTake 1 = .ok (.invokevirtual 285, 3) := dk_182 1 29 (dk_at dksX0_wouldTake_0 1 rfl rfl)
theorem dX0_wouldTake_4 : decode cX0_wouldTake 4 = .ok (.astore 6, 2) := dk_58 6 (dk_at dksX0_wouldTake_0 4 rfl rfl)
theorem dX0_wouldTake_6 : decode cX0_wouldTake 6 = .ok (.aload 6, 2) := dk_25 6 (dk_at dksX0_wouldTake_0 6 rfl rfl)
theorem dX0_wouldTake_8 : decode cX0_wouldTake 8 = .ok (.getfield 160, 3) := dk_180 0 160 (dk_at dksX0_wouldTake_0 8 rfl rfl)
theorem dX0_wouldTake_11 : decode cX0_wouldTake 11 = .ok (.iload_n 2, 1) := dk_28 (dk_at dksX0_wouldTake_0 11 rfl rfl)
theorem dX0_wouldTake_12 : decode cX0_wouldTake 12 = .ok (.iload 4, 2) := dk_21 4 (dk_at dksX0_wouldTake_0 12 rfl rfl)
theorem dX0_wouldTake_14 : decode cX0_wouldTake 14 = .ok (.iload_n 2, 1) := dk_28 (dk_at dksX0_wouldTake_0 14 rfl rfl)
theorem dX0_wouldTake_15 : decode cX0_wouldTake 15 = .ok (.iload 5, 2) := dk_21 5 (dk_at dksX0_wouldTake_0 15 rfl rfl)
theorem dX0_wouldTake_17 : decode cX0_wouldTake 17 = .ok (.invokestatic 313, 3) := dk_184 1 57 (dk_at dksX0_wouldTake_0 17 rfl rfl)
theorem dX0_wouldTake_20 : decode cX0_wouldTake 20 = .ok (.aastore, 1) := dk_83 (dk_at dksX0_wouldTake_0 20 rfl rfl)
theorem dX0_wouldTake_21 : decode cX0_wouldTake 21 = .ok (.aload_n 0, 1) := dk_42 (dk_at dksX0_wouldTake_0 21 rfl rfl)
theorem dX0_wouldTake_22 : decode cX0_wouldTake 22 = .ok (.getfield 53, 3) := dk_180 0 53 (dk_at dksX0_wouldTake_1 0 rfl rfl)
theorem dX0_wouldTake_25 : decode cX0_wouldTake 25 = .ok (.aload 6, 2) := dk_25 6 (dk_at dksX0_wouldTake_1 3 rfl rfl)
theorem dX0_wouldTake_27 : decode cX0_wouldTake 27 = .ok (.iload_n 1, 1) := dk_27 (dk_at dksX0_wouldTake_1 5 rfl rfl)
theorem dX0_wouldTake_28 : decode cX0_wouldTake 28 = .ok (.invokevirtual 164, 3) := dk_182 0 164 (dk_at dksX0_wouldTake_1 6 rfl rfl)
theorem dX0_wouldTake_31 : decode cX0_wouldTake 31 = .ok (.getfield 168, 3) := dk_180 0 168 (dk_at dksX0_wouldTake_1 9 rfl rfl)
theorem dX0_wouldTake_34 : decode cX0_wouldTake 34 = .ok (.iload_n 2, 1) := dk_28 (dk_at dksX0_wouldTake_1 12 rfl rfl)
theorem dX0_wouldTake_35 : decode cX0_wouldTake 35 = .ok (.iaload, 1) := dk_46 (dk_at dksX0_wouldTake_1 13 rfl rfl)
theorem dX0_wouldTake_36 : decode cX0_wouldTake 36 = .ok (.iload_n 3, 1) := dk_29 (dk_at dksX0_wouldTake_1 14 rfl rfl)
theorem dX0_wouldTake_37 : decode cX0_wouldTake 37 = .ok (.if_icmp .ne 7, 3) := dk_160 0 7 (dk_at dksX0_wouldTake_1 15 rfl rfl)
theorem dX0_wouldTake_40 : decode cX0_wouldTake 40 = .ok (.iconst 1, 1) := dk_4 (dk_at dksX0_wouldTake_1 18 rfl rfl)
theorem dX0_wouldTake_41 : decode cX0_wouldTake 41 = .ok (.goto 4, 3) := dk_167 0 4 (dk_at dksX0_wouldTake_1 19 rfl rfl)
theorem dX0_wouldTake_44 : decode cX0_wouldTake 44 = .ok (.iconst 0, 1) := dk_3 (dk_at dksX0_wouldTake_1 22 rfl rfl)
theorem dX0_wouldTake_45 : decode cX0_wouldTake 45 = .ok (.ireturn, 1) := dk_172 (dk_at dksX0_wouldTake_1 23 rfl rfl)
abbrev cX0_odds : ByteArray := prog_1_method_63_code
def yX0_odds : MethodName := ⟨RX0, "odds", "(I)I"⟩
def dkwX0_odds_4 : List UInt8 := [65, 132, 4, 1, 167, 255, 198, 42, 32, 42, 180, 0, 36, 180, 0, 192, 182, 1, 77, 172]
abbrev dktX0_odds_4 : List UInt8 := dkwX0_odds_4 ++ []
def dkwX0_odds_3 : List UInt8 := [184, 0, 202, 153, 0, 19, 42, 21, 4, 42, 180, 0, 36, 182, 0, 80, 182, 1, 73, 167, 0, 4, 9, 97]
abbrev dktX0_odds_3 : List UInt8 := dkwX0_odds_3 ++ dktX0_odds_4
def dkwX0_odds_2 : List UInt8 := [182, 0, 80, 163, 0, 52, 32, 42, 180, 0, 53, 42, 180, 0, 36, 21, 4, 182, 0, 164, 182, 0, 250, 27]
abbrev dktX0_odds_2 : List UInt8 := dkwX0_odds_2 ++ dktX0_odds_3
def dkwX0_odds_1 : List UInt8 := [27, 46, 2, 160, 0, 10, 42, 16, 251, 182, 0, 105, 172, 9, 65, 3, 54, 4, 21, 4, 42, 180, 0, 36]
abbrev dktX0_odds_1 : List UInt8 := dkwX0_odds_1 ++ dktX0_odds_2
def dkwX0_odds_0 : List UInt8 := [27, 184, 0, 180, 154, 0, 10, 42, 16, 254, 182, 0, 105, 172, 42, 180, 0, 36, 180, 0, 186, 180, 0, 189]
abbrev dktX0_odds_0 : List UInt8 := dkwX0_odds_0 ++ dktX0_odds_1
theorem dksX0_odds_0 : cX0_odds.data.toList.drop 0 = dktX0_odds_0 := by decide +kernel
theorem dksX0_odds_1 : cX0_odds.data.toList.drop 24 = dktX0_odds_1 := dk_seg dksX0_odds_0 24 rfl rfl
theorem dksX0_odds_2 : cX0_odds.data.toList.drop 48 = dktX0_odds_2 := dk_seg dksX0_odds_1 24 rfl rfl
theorem dksX0_odds_3 : cX0_odds.data.toList.drop 72 = dktX0_odds_3 := dk_seg dksX0_odds_2 24 rfl rfl
theorem dksX0_odds_4 : cX0_odds.data.toList.drop 96 = dktX0_odds_4 := dk_seg dksX0_odds_3 24 rfl rfl
theorem dX0_odds_0 : decode cX0_odds 0 = .ok (.iload_n 1, 1) := dk_27 (dk_at dksX0_odds_0 0 rfl rfl)
theorem dX0_odds_1 : decode cX0_odds 1 = .ok (.invokestatic 180, 3) := dk_184 0 180 (dk_at dksX0_odds_0 1 rfl rfl)
theorem dX0_odds_4 : decode cX0_odds 4 = .ok (.ifCond .ne 10, 3) := dk_154 0 10 (dk_at dksX0_odds_0 4 rfl rfl)
theorem dX0_odds_7 : decode cX0_odds 7 = .ok (.aload_n 0, 1) := dk_42 (dk_at dksX0_odds_0 7 rfl rfl)
theorem dX0_odds_8 : decode cX0_odds 8 = .ok (.bipush (-2), 2) := dk_16 254 (dk_at dksX0_odds_0 8 rfl rfl)
theorem dX0_odds_10 : decode cX0_odds 10 = .ok (.invokevirtual 105, 3) := dk_182 0 105 (dk_at dksX0_odds_0 10 rfl rfl)
theorem dX0_odds_13 : decode cX0_odds 13 = .ok (.ireturn, 1) := dk_172 (dk_at dksX0_odds_0 13 rfl rfl)
theorem dX0_odds_14 : decode cX0_odds 14 = .ok (.aload_n 0, 1) := dk_42 (dk_at dksX0_odds_0 14 rfl rfl)
theorem dX0_odds_15 : decode cX0_odds 15 = .ok (.getfield 36, 3) := dk_180 0 36 (dk_at dksX0_odds_0 15 rfl rfl)
theorem dX0_odds_18 : decode cX0_odds 18 = .ok (.getfield 186, 3) := dk_180 0 186 (dk_at dksX0_odds_0 18 rfl rfl)
theorem dX0_odds_21 : decode cX0_odds 21 = .ok (.getfield 189, 3) := dk_180 0 189 (dk_at dksX0_odds_0 21 rfl rfl)
theorem dX0_odds_24 : decode cX0_odds 24 = .ok (.iload_n 1, 1) := dk_27 (dk_at dksX0_odds_1 0 rfl rfl)
theorem dX0_odds_25 : decode cX0_odds 25 = .ok (.iaload, 1) := dk_46 (dk_at dksX0_odds_1 1 rfl rfl)
theorem dX0_odds_26 : decode cX0_odds 26 = .ok (.iconst (-1), 1) := dk_2 (dk_at dksX0_odds_1 2 rfl rfl)
theorem dX0_odds_27 : decode cX0_odds 27 = .ok (.if_icmp .ne 10, 3) := dk_160 0 10 (dk_at dksX0_odds_1 3 rfl rfl)
theorem dX0_odds_30 : decode cX0_odds 30 = .ok (.aload_n 0, 1) := dk_42 (dk_at dksX0_odds_1 6 rfl rfl)
theorem dX0_odds_31 : decode cX0_odds 31 = .ok (.bipush (-5), 2) := dk_16 251 (dk_at dksX0_odds_1 7 rfl rfl)
theorem dX0_odds_33 : decode cX0_odds 33 = .ok (.invokevirtual 105, 3) := dk_182 0 105 (dk_at dksX0_odds_1 9 rfl rfl)
theorem dX0_odds_36 : decode cX0_odds 36 = .ok (.ireturn, 1) := dk_172 (dk_at dksX0_odds_1 12 rfl rfl)
theorem dX0_odds_37 : decode cX0_odds 37 = .ok (.lconst 0, 1) := dk_9 (dk_at dksX0_odds_1 13 rfl rfl)
theorem dX0_odds_38 : decode cX0_odds 38 = .ok (.lstore_n 2, 1) := dk_65 (dk_at dksX0_odds_1 14 rfl rfl)
theorem dX0_odds_39 : decode cX0_odds 39 = .ok (.iconst 0, 1) := dk_3 (dk_at dksX0_odds_1 15 rfl rfl)
theorem dX0_odds_40 : decode cX0_odds 40 = .ok (.istore 4, 2) := dk_54 4 (dk_at dksX0_odds_1 16 rfl rfl)
theorem dX0_odds_42 : decode cX0_odds 42 = .ok (.iload 4, 2) := dk_21 4 (dk_at dksX0_odds_1 18 rfl rfl)
theorem dX0_odds_44 : decode cX0_odds 44 = .ok (.aload_n 0, 1) := dk_42 (dk_at dksX0_odds_1 20 rfl rfl)
theorem dX0_odds_45 : decode cX0_odds 45 = .ok (.getfield 36, 3) := dk_180 0 36 (dk_at dksX0_odds_1 21 rfl rfl)
theorem dX0_odds_48 : decode cX0_odds 48 = .ok (.invokevirtual 80, 3) := dk_182 0 80 (dk_at dksX0_odds_2 0 rfl rfl)
theorem dX0_odds_51 : decode cX0_odds 51 = .ok (.if_icmp .gt 52, 3) := dk_163 0 52 (dk_at dksX0_odds_2 3 rfl rfl)
theorem dX0_odds_54 : decode cX0_odds 54 = .ok (.lload_n 2, 1) := dk_32 (dk_at dksX0_odds_2 6 rfl rfl)
theorem dX0_odds_55 : decode cX0_odds 55 = .ok (.aload_n 0, 1) := dk_42 (dk_at dksX0_odds_2 7 rfl rfl)
theorem dX0_odds_56 : decode cX0_odds 56 = .ok (.getfield 53, 3) := dk_180 0 53 (dk_at dksX0_odds_2 8 rfl rfl)
theorem dX0_odds_59 : decode cX0_odds 59 = .ok (.aload_n 0, 1) := dk_42 (dk_at dksX0_odds_2 11 rfl rfl)
theorem dX0_odds_60 : decode cX0_odds 60 = .ok (.getfield 36, 3) := dk_180 0 36 (dk_at dksX0_odds_2 12 rfl rfl)
theorem dX0_odds_63 : decode cX0_odds 63 = .ok (.iload 4, 2) := dk_21 4 (dk_at dksX0_odds_2 15 rfl rfl)
theorem dX0_odds_65 : decode cX0_odds 65 = .ok (.invokevirtual 164, 3) := dk_182 0 164 (dk_at dksX0_odds_2 17 rfl rfl)
theorem dX0_odds_68 : decode cX0_odds 68 = .ok (.invokevirtual 250, 3) := dk_182 0 250 (dk_at dksX0_odds_2 20 rfl rfl)
theorem dX0_odds_71 : decode cX0_odds 71 = .ok (.iload_n 1, 1) := dk_27 (dk_at dksX0_odds_2 23 rfl rfl)
theorem dX0_odds_72 : decode cX0_odds 72 = .ok (.invokestatic 202, 3) := dk_184 0 202 (dk_at dksX0_odds_3 0 rfl rfl)
theorem dX0_odds_75 : decode cX0_odds 75 = .ok (.ifCond .eq 19, 3) := dk_153 0 19 (dk_at dksX0_odds_3 3 rfl rfl)
theorem dX0_odds_78 : decode cX0_odds 78 = .ok (.aload_n 0, 1) := dk_42 (dk_at dksX0_odds_3 6 rfl rfl)
theorem dX0_odds_79 : decode cX0_odds 79 = .ok (.iload 4, 2) := dk_21 4 (dk_at dksX0_odds_3 7 rfl rfl)
theorem dX0_odds_81 : decode cX0_odds 81 = .ok (.aload_n 0, 1) := dk_42 (dk_at dksX0_odds_3 9 rfl rfl)
theorem dX0_odds_82 : decode cX0_odds 82 = .ok (.getfield 36, 3) := dk_180 0 36 (dk_at dksX0_odds_3 10 rfl rfl)
theorem dX0_odds_85 : decode cX0_odds 85 = .ok (.invokevirtual 80, 3) := dk_182 0 80 (dk_at dksX0_odds_3 13 rfl rfl)
theorem dX0_odds_88 : decode cX0_odds 88 = .ok (.invokevirtual 329, 3) := dk_182 1 73 (dk_at dksX0_odds_3 16 rfl rfl)
theorem dX0_odds_91 : decode cX0_odds 91 = .ok (.goto 4, 3) := dk_167 0 4 (dk_at dksX0_odds_3 19 rfl rfl)
theorem dX0_odds_94 : decode cX0_odds 94 = .ok (.lconst 0, 1) := dk_9 (dk_at dksX0_odds_3 22 rfl rfl)
theorem dX0_odds_95 : decode cX0_odds 95 = .ok (.ladd, 1) := dk_97 (dk_at dksX0_odds_3 23 rfl rfl)
theorem dX0_odds_96 : decode cX0_odds 96 = .ok (.lstore_n 2, 1) := dk_65 (dk_at dksX0_odds_4 0 rfl rfl)
theorem dX0_odds_97 : decode cX0_odds 97 = .ok (.iinc 4 1, 3) := dk_132 4 1 (dk_at dksX0_odds_4 1 rfl rfl)
theorem dX0_odds_100 : decode cX0_odds 100 = .ok (.goto (-58), 3) := dk_167 255 198 (dk_at dksX0_odds_4 4 rfl rfl)
theorem dX0_odds_103 : decode cX0_odds 103 = .ok (.aload_n 0, 1) := dk_42 (dk_at dksX0_odds_4 7 rfl rfl)
theorem dX0_odds_104 : decode cX0_odds 104 = .ok (.lload_n 2, 1) := dk_32 (dk_at dksX0_odds_4 8 rfl rfl)
theorem dX0_odds_105 : decode cX0_odds 105 = .ok (.aload_n 0, 1) := dk_42 (dk_at dksX0_odds_4 9 rfl rfl)
theorem dX0_odds_106 : decode cX0_odds 106 = .ok (.getfield 36, 3) := dk_180 0 36 (dk_at dksX0_odds_4 10 rfl rfl)
theorem dX0_odds_109 : decode cX0_odds 109 = .ok (.getfield 192, 3) := dk_180 0 192 (dk_at dksX0_odds_4 13 rfl rfl)
theorem dX0_odds_112 : decode cX0_odds 112 = .ok (.invokevirtual 333, 3) := dk_182 1 77 (dk_at dksX0_odds_4 16 rfl rfl)
theorem dX0_odds_115 : decode cX0_odds 115 = .ok (.ireturn, 1) := dk_172 (dk_at dksX0_odds_4 19 rfl rfl)
abbrev cX0_ways : ByteArray := prog_1_method_60_code
def yX0_ways : MethodName := ⟨RX0, "ways", "(II)J"⟩
def dkwX0_ways_3 : List UInt8 := [167, 255, 192, 33, 173]
abbrev dktX0_ways_3 : List UInt8 := dkwX0_ways_3 ++ []
def dkwX0_ways_2 : List UInt8 := [167, 0, 17, 16, 12, 42, 180, 0, 36, 180, 0, 206, 21, 5, 46, 100, 133, 105, 66, 132, 5, 1]
abbrev dktX0_ways_2 : List UInt8 := dkwX0_ways_2 ++ dktX0_ways_3
def dkwX0_ways_1 : List UInt8 := [153, 0, 43, 33, 27, 21, 5, 184, 0, 202, 153, 0, 17, 42, 180, 0, 36, 180, 0, 206, 21, 5, 46, 133]
abbrev dktX0_ways_1 : List UInt8 := dkwX0_ways_1 ++ dktX0_ways_2
def dkwX0_ways_0 : List UInt8 := [10, 66, 3, 54, 5, 21, 5, 42, 180, 0, 36, 180, 0, 192, 162, 0, 58, 28, 21, 5, 184, 0, 202]
abbrev dktX0_ways_0 : List UInt8 := dkwX0_ways_0 ++ dktX0_ways_1
theorem dksX0_ways_0 : cX0_ways.data.toList.drop 0 = dktX0_ways_0 := by decide +kernel
theorem dksX0_ways_1 : cX0_ways.data.toList.drop 23 = dktX0_ways_1 := dk_seg dksX0_ways_0 23 rfl rfl
theorem dksX0_ways_2 : cX0_ways.data.toList.drop 47 = dktX0_ways_2 := dk_seg dksX0_ways_1 24 rfl rfl
theorem dksX0_ways_3 : cX0_ways.data.toList.drop 69 = dktX0_ways_3 := dk_seg dksX0_ways_2 22 rfl rfl
theorem dX0_ways_0 : decode cX0_ways 0 = .ok (.lconst 1, 1) := dk_10 (dk_at dksX0_ways_0 0 rfl rfl)
theorem dX0_ways_1 : decode cX0_ways 1 = .ok (.lstore_n 3, 1) := dk_66 (dk_at dksX0_ways_0 1 rfl rfl)
theorem dX0_ways_2 : decode cX0_ways 2 = .ok (.iconst 0, 1) := dk_3 (dk_at dksX0_ways_0 2 rfl rfl)
theorem dX0_ways_3 : decode cX0_ways 3 = .ok (.istore 5, 2) := dk_54 5 (dk_at dksX0_ways_0 3 rfl rfl)
theorem dX0_ways_5 : decode cX0_ways 5 = .ok (.iload 5, 2) := dk_21 5 (dk_at dksX0_ways_0 5 rfl rfl)
theorem dX0_ways_7 : decode cX0_ways 7 = .ok (.aload_n 0, 1) := dk_42 (dk_at dksX0_ways_0 7 rfl rfl)
theorem dX0_ways_8 : decode cX0_ways 8 = .ok (.getfield 36, 3) := dk_180 0 36 (dk_at dksX0_ways_0 8 rfl rfl)
theorem dX0_ways_11 : decode cX0_ways 11 = .ok (.getfield 192, 3) := dk_180 0 192 (dk_at dksX0_ways_0 11 rfl rfl)
theorem dX0_ways_14 : decode cX0_ways 14 = .ok (.if_icmp .ge 58, 3) := dk_162 0 58 (dk_at dksX0_ways_0 14 rfl rfl)
theorem dX0_ways_17 : decode cX0_ways 17 = .ok (.iload_n 2, 1) := dk_28 (dk_at dksX0_ways_0 17 rfl rfl)
theorem dX0_ways_18 : decode cX0_ways 18 = .ok (.iload 5, 2) := dk_21 5 (dk_at dksX0_ways_0 18 rfl rfl)
theorem dX0_ways_20 : decode cX0_ways 20 = .ok (.invokestatic 202, 3) := dk_184 0 202 (dk_at dksX0_ways_0 20 rfl rfl)
theorem dX0_ways_23 : decode cX0_ways 23 = .ok (.ifCond .eq 43, 3) := dk_153 0 43 (dk_at dksX0_ways_1 0 rfl rfl)
theorem dX0_ways_26 : decode cX0_ways 26 = .ok (.lload_n 3, 1) := dk_33 (dk_at dksX0_ways_1 3 rfl rfl)
theorem dX0_ways_27 : decode cX0_ways 27 = .ok (.iload_n 1, 1) := dk_27 (dk_at dksX0_ways_1 4 rfl rfl)
theorem dX0_ways_28 : decode cX0_ways 28 = .ok (.iload 5, 2) := dk_21 5 (dk_at dksX0_ways_1 5 rfl rfl)
theorem dX0_ways_30 : decode cX0_ways 30 = .ok (.invokestatic 202, 3) := dk_184 0 202 (dk_at dksX0_ways_1 7 rfl rfl)
theorem dX0_ways_33 : decode cX0_ways 33 = .ok (.ifCond .eq 17, 3) := dk_153 0 17 (dk_at dksX0_ways_1 10 rfl rfl)
theorem dX0_ways_36 : decode cX0_ways 36 = .ok (.aload_n 0, 1) := dk_42 (dk_at dksX0_ways_1 13 rfl rfl)
theorem dX0_ways_37 : decode cX0_ways 37 = .ok (.getfield 36, 3) := dk_180 0 36 (dk_at dksX0_ways_1 14 rfl rfl)
theorem dX0_ways_40 : decode cX0_ways 40 = .ok (.getfield 206, 3) := dk_180 0 206 (dk_at dksX0_ways_1 17 rfl rfl)
theorem dX0_ways_43 : decode cX0_ways 43 = .ok (.iload 5, 2) := dk_21 5 (dk_at dksX0_ways_1 20 rfl rfl)
theorem dX0_ways_45 : decode cX0_ways 45 = .ok (.iaload, 1) := dk_46 (dk_at dksX0_ways_1 22 rfl rfl)
theorem dX0_ways_46 : decode cX0_ways 46 = .ok (.i2l, 1) := dk_133 (dk_at dksX0_ways_1 23 rfl rfl)
theorem dX0_ways_47 : decode cX0_ways 47 = .ok (.goto 17, 3) := dk_167 0 17 (dk_at dksX0_ways_2 0 rfl rfl)
theorem dX0_ways_50 : decode cX0_ways 50 = .ok (.bipush 12, 2) := dk_16 12 (dk_at dksX0_ways_2 3 rfl rfl)
theorem dX0_ways_52 : decode cX0_ways 52 = .ok (.aload_n 0, 1) := dk_42 (dk_at dksX0_ways_2 5 rfl rfl)
theorem dX0_ways_53 : decode cX0_ways 53 = .ok (.getfield 36, 3) := dk_180 0 36 (dk_at dksX0_ways_2 6 rfl rfl)
theorem dX0_ways_56 : decode cX0_ways 56 = .ok (.getfield 206, 3) := dk_180 0 206 (dk_at dksX0_ways_2 9 rfl rfl)
theorem dX0_ways_59 : decode cX0_ways 59 = .ok (.iload 5, 2) := dk_21 5 (dk_at dksX0_ways_2 12 rfl rfl)
theorem dX0_ways_61 : decode cX0_ways 61 = .ok (.iaload, 1) := dk_46 (dk_at dksX0_ways_2 14 rfl rfl)
theorem dX0_ways_62 : decode cX0_ways 62 = .ok (.isub, 1) := dk_100 (dk_at dksX0_ways_2 15 rfl rfl)
theorem dX0_ways_63 : decode cX0_ways 63 = .ok (.i2l, 1) := dk_133 (dk_at dksX0_ways_2 16 rfl rfl)
theorem dX0_ways_64 : decode cX0_ways 64 = .ok (.lmul, 1) := dk_105 (dk_at dksX0_ways_2 17 rfl rfl)
theorem dX0_ways_65 : decode cX0_ways 65 = .ok (.lstore_n 3, 1) := dk_66 (dk_at dksX0_ways_2 18 rfl rfl)
theorem dX0_ways_66 : decode cX0_ways 66 = .ok (.iinc 5 1, 3) := dk_132 5 1 (dk_at dksX0_ways_2 19 rfl rfl)
theorem dX0_ways_69 : decode cX0_ways 69 = .ok (.goto (-64), 3) := dk_167 255 192 (dk_at dksX0_ways_3 0 rfl rfl)
theorem dX0_ways_72 : decode cX0_ways 72 = .ok (.lload_n 3, 1) := dk_33 (dk_at dksX0_ways_3 3 rfl rfl)
theorem dX0_ways_73 : decode cX0_ways 73 = .ok (.lreturn, 1) := dk_173 (dk_at dksX0_ways_3 4 rfl rfl)
abbrev cX0_ofMillion : ByteArray := prog_1_method_62_code
def yX0_ofMillion : MethodName := ⟨RX0, "ofMillion", "(JI)I"⟩
def dkwX0_ofMillion_0 : List UInt8 := [20, 1, 67, 31, 105, 29, 184, 1, 69, 109, 136, 172]
abbrev dktX0_ofMillion_0 : List UInt8 := dkwX0_ofMillion_0 ++ []
theorem dksX0_ofMillion_0 : cX0_ofMillion.data.toList.drop 0 = dktX0_ofMillion_0 := by decide +kernel
theorem dX0_ofMillion_0 : decode cX0_ofMillion 0 = .ok (.ldc2_w 323, 3) := dk_20 1 67 (dk_at dksX0_ofMillion_0 0 rfl rfl)
theorem dX0_ofMillion_3 : decode cX0_ofMillion 3 = .ok (.lload_n 1, 1) := dk_31 (dk_at dksX0_ofMillion_0 3 rfl rfl)
theorem dX0_ofMillion_4 : decode cX0_ofMillion 4 = .ok (.lmul, 1) := dk_105 (dk_at dksX0_ofMillion_0 4 rfl rfl)
theorem dX0_ofMillion_5 : decode cX0_ofMillion 5 = .ok (.iload_n 3, 1) := dk_29 (dk_at dksX0_ofMillion_0 5 rfl rfl)
theorem dX0_ofMillion_6 : decode cX0_ofMillion 6 = .ok (.invokestatic 325, 3) := dk_184 1 69 (dk_at dksX0_ofMillion_0 6 rfl rfl)
theorem dX0_ofMillion_9 : decode cX0_ofMillion 9 = .ok (.ldiv, 1) := dk_109 (dk_at dksX0_ofMillion_0 9 rfl rfl)
theorem dX0_ofMillion_10 : decode cX0_ofMillion 10 = .ok (.l2i, 1) := dk_136 (dk_at dksX0_ofMillion_0 10 rfl rfl)
theorem dX0_ofMillion_11 : decode cX0_ofMillion 11 = .ok (.ireturn, 1) := dk_172 (dk_at dksX0_ofMillion_0 11 rfl rfl)
