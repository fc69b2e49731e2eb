set_option maxRecDepth 100000
abbrev cX5_tell : ByteArray := prog_17_method_26_code
def yX5_tell : MethodName := ⟨RX5, "tell", "(III)I"⟩
def dkwX5_tell_6 : List UInt8 := [79, 21, 4, 172]
abbrev dktX5_tell_6 : List UInt8 := dkwX5_tell_6 ++ []
def dkwX5_tell_5 : List UInt8 := [167, 0, 25, 28, 4, 160, 0, 13, 42, 180, 0, 19, 27, 29, 79, 167, 0, 10, 42, 180, 0, 28, 27, 29]
abbrev dktX5_tell_5 : List UInt8 := dkwX5_tell_5 ++ dktX5_tell_6
def dkwX5_tell_4 : List UInt8 := [167, 0, 9, 42, 180, 0, 28, 27, 46, 54, 4, 28, 154, 0, 13, 42, 180, 0, 25, 27, 29, 79]
abbrev dktX5_tell_4 : List UInt8 := dkwX5_tell_4 ++ dktX5_tell_5
def dkwX5_tell_3 : List UInt8 := [154, 0, 12, 42, 180, 0, 25, 27, 46, 167, 0, 23, 28, 4, 160, 0, 12, 42, 180, 0, 19, 27, 46]
abbrev dktX5_tell_3 : List UInt8 := dkwX5_tell_3 ++ dktX5_tell_4
def dkwX5_tell_2 : List UInt8 := [160, 0, 8, 16, 99, 167, 0, 5, 16, 7, 184, 0, 85, 154, 0, 10, 42, 16, 254, 182, 0, 96, 172, 28]
abbrev dktX5_tell_2 : List UInt8 := dkwX5_tell_2 ++ dktX5_tell_3
def dkwX5_tell_1 : List UInt8 := [29, 28, 5, 160, 0, 7, 2, 167, 0, 4, 3, 28, 154, 0, 8, 16, 12, 167, 0, 15, 28, 4]
abbrev dktX5_tell_1 : List UInt8 := dkwX5_tell_1 ++ dktX5_tell_2
def dkwX5_tell_0 : List UInt8 := [42, 27, 182, 0, 110, 153, 0, 12, 28, 3, 5, 184, 0, 85, 154, 0, 10, 42, 16, 254, 182, 0, 96, 172]
abbrev dktX5_tell_0 : List UInt8 := dkwX5_tell_0 ++ dktX5_tell_1
theorem dksX5_tell_0 : cX5_tell.data.toList.drop 0 = dktX5_tell_0 := by decide +kernel
theorem dksX5_tell_1 : cX5_tell.data.toList.drop 24 = dktX5_tell_1 := dk_seg dksX5_tell_0 24 rfl rfl
theorem dksX5_tell_2 : cX5_tell.data.toList.drop 46 = dktX5_tell_2 := dk_seg dksX5_tell_1 22 rfl rfl
theorem dksX5_tell_3 : cX5_tell.data.toList.drop 70 = dktX5_tell_3 := dk_seg dksX5_tell_2 24 rfl rfl
theorem dksX5_tell_4 : cX5_tell.data.toList.drop 93 = dktX5_tell_4 := dk_seg dksX5_tell_3 23 rfl rfl
theorem dksX5_tell_5 : cX5_tell.data.toList.drop 115 = dktX5_tell_5 := dk_seg dksX5_tell_4 22 rfl rfl
theorem dksX5_tell_6 : cX5_tell.data.toList.drop 139 = dktX5_tell_6 := dk_seg dksX5_tell_5 24 rfl rfl
theorem dX5_tell_0 : decode cX5_tell 0 = .ok (.aload_n 0, 1) := dk_42 (dk_at dksX5_tell_0 0 rfl rfl)
theorem dX5_tell_1 : decode cX5_tell 1 = .ok (.iload_n 1, 1) := dk_27 (dk_at dksX5_tell_0 1 rfl rfl)
theorem dX5_tell_2 : decode cX5_tell 2 = .ok (.invokevirtual 110, 3) := dk_182 0 110 (dk_at dksX5_tell_0 2 rfl rfl)
theorem dX5_tell_5 : decode cX5_tell 5 = .ok (.ifCond .eq 12, 3) := dk_153 0 12 (dk_at dksX5_tell_0 5 rfl rfl)
theorem dX5_tell_8 : decode cX5_tell 8 = .ok (.iload_n 2, 1) := dk_28 (dk_at dksX5_tell_0 8 rfl rfl)
theorem dX5_tell_9 : decode cX5_tell 9 = .ok (.iconst 0, 1) := dk_3 (dk_at dksX5_tell_0 9 rfl rfl)
theorem dX5_tell_10 : decode cX5_tell 10 = .ok (.iconst 2, 1) := dk_5 (dk_at dksX5_tell_0 10 rfl rfl)
theorem dX5_tell_11 : decode cX5_tell 11 = .ok (.invokestatic 85, 3) := dk_184 0 85 (dk_at dksX5_tell_0 11 rfl rfl)
theorem dX5_tell_14 : decode cX5_tell 14 = .ok (.ifCond .ne 10, 3) := dk_154 0 10 (dk_at dksX5_tell_0 14 rfl rfl)
theorem dX5_tell_17 : decode cX5_tell 17 = .ok (.aload_n 0, 1) := dk_42 (dk_at dksX5_tell_0 17 rfl rfl)
theorem dX5_tell_18 : decode cX5_tell 18 = .ok (.bipush (-2), 2) := dk_16 254 (dk_at dksX5_tell_0 18 rfl rfl)
theorem dX5_tell_20 : decode cX5_tell 20 = .ok (.invokevirtual 96, 3) := dk_182 0 96 (dk_at dksX5_tell_0 20 rfl rfl)
theorem dX5_tell_23 : decode cX5_tell 23 = .ok (.ireturn, 1) := dk_172 (dk_at dksX5_tell_0 23 rfl rfl)
theorem dX5_tell_24 : decode cX5_tell 24 = .ok (.iload_n 3, 1) := dk_29 (dk_at dksX5_tell_1 0 rfl rfl)
theorem dX5_tell_25 : decode cX5_tell 25 = .ok (.iload_n 2, 1) := dk_28 (dk_at dksX5_tell_1 1 rfl rfl)
theorem dX5_tell_26 : decode cX5_tell 26 = .ok (.iconst 2, 1) := dk_5 (dk_at dksX5_tell_1 2 rfl rfl)
theorem dX5_tell_27 : decode cX5_tell 27 = .ok (.if_icmp .ne 7, 3) := dk_160 0 7 (dk_at dksX5_tell_1 3 rfl rfl)
theorem dX5_tell_30 : decode cX5_tell 30 = .ok (.iconst (-1), 1) := dk_2 (dk_at dksX5_tell_1 6 rfl rfl)
theorem dX5_tell_31 : decode cX5_tell 31 = .ok (.goto 4, 3) := dk_167 0 4 (dk_at dksX5_tell_1 7 rfl rfl)
theorem dX5_tell_34 : decode cX5_tell 34 = .ok (.iconst 0, 1) := dk_3 (dk_at dksX5_tell_1 10 rfl rfl)
theorem dX5_tell_35 : decode cX5_tell 35 = .ok (.iload_n 2, 1) := dk_28 (dk_at dksX5_tell_1 11 rfl rfl)
theorem dX5_tell_36 : decode cX5_tell 36 = .ok (.ifCond .ne 8, 3) := dk_154 0 8 (dk_at dksX5_tell_1 12 rfl rfl)
theorem dX5_tell_39 : decode cX5_tell 39 = .ok (.bipush 12, 2) := dk_16 12 (dk_at dksX5_tell_1 15 rfl rfl)
theorem dX5_tell_41 : decode cX5_tell 41 = .ok (.goto 15, 3) := dk_167 0 15 (dk_at dksX5_tell_1 17 rfl rfl)
theorem dX5_tell_44 : decode cX5_tell 44 = .ok (.iload_n 2, 1) := dk_28 (dk_at dksX5_tell_1 20 rfl rfl)
theorem dX5_tell_45 : decode cX5_tell 45 = .ok (.iconst 1, 1) := dk_4 (dk_at dksX5_tell_1 21 rfl rfl)
theorem dX5_tell_46 : decode cX5_tell 46 = .ok (.if_icmp .ne 8, 3) := dk_160 0 8 (dk_at dksX5_tell_2 0 rfl rfl)
theorem dX5_tell_49 : decode cX5_tell 49 = .ok (.bipush 99, 2) := dk_16 99 (dk_at dksX5_tell_2 3 rfl rfl)
theorem dX5_tell_51 : decode cX5_tell 51 = .ok (.goto 5, 3) := dk_167 0 5 (dk_at dksX5_tell_2 5 rfl rfl)
theorem dX5_tell_54 : decode cX5_tell 54 = .ok (.bipush 7, 2) := dk_16 7 (dk_at dksX5_tell_2 8 rfl rfl)
theorem dX5_tell_56 : decode cX5_tell 56 = .ok (.invokestatic 85, 3) := dk_184 0 85 (dk_at dksX5_tell_2 10 rfl rfl)
theorem dX5_tell_59 : decode cX5_tell 59 = .ok (.ifCond .ne 10, 3) := dk_154 0 10 (dk_at dksX5_tell_2 13 rfl rfl)
theorem dX5_tell_62 : decode cX5_tell 62 = .ok (.aload_n 0, 1) := dk_42 (dk_at dksX5_tell_2 16 rfl rfl)
theorem dX5_tell_63 : decode cX5_tell 63 = .ok (.bipush (-2), 2) := dk_16 254 (dk_at dksX5_tell_2 17 rfl rfl)
theorem dX5_tell_65 : decode cX5_tell 65 = .ok (.invokevirtual 96, 3) := dk_182 0 96 (dk_at dksX5_tell_2 19 rfl rfl)
theorem dX5_tell_68 : decode cX5_tell 68 = .ok (.ireturn, 1) := dk_172 (dk_at dksX5_tell_2 22 rfl rfl)
theorem dX5_tell_69 : decode cX5_tell 69 = .ok (.iload_n 2, 1) := dk_28 (dk_at dksX5_tell_2 23 rfl rfl)
theorem dX5_tell_70 : decode cX5_tell 70 = .ok (.ifCond .ne 12, 3) := dk_154 0 12 (dk_at dksX5_tell_3 0 rfl rfl)
theorem dX5_tell_73 : decode cX5_tell 73 = .ok (.aload_n 0, 1) := dk_42 (dk_at dksX5_tell_3 3 rfl rfl)
theorem dX5_tell_74 : decode cX5_tell 74 = .ok (.getfield 25, 3) := dk_180 0 25 (dk_at dksX5_tell_3 4 rfl rfl)
theorem dX5_tell_77 : decode cX5_tell 77 = .ok (.iload_n 1, 1) := dk_27 (dk_at dksX5_tell_3 7 rfl rfl)
theorem dX5_tell_78 : decode cX5_tell 78 = .ok (.iaload, 1) := dk_46 (dk_at dksX5_tell_3 8 rfl rfl)
theorem dX5_tell_79 : decode cX5_tell 79 = .ok (.goto 23, 3) := dk_167 0 23 (dk_at dksX5_tell_3 9 rfl rfl)
theorem dX5_tell_82 : decode cX5_tell 82 = .ok (.iload_n 2, 1) := dk_28 (dk_at dksX5_tell_3 12 rfl rfl)
theorem dX5_tell_83 : decode cX5_tell 83 = .ok (.iconst 1, 1) := dk_4 (dk_at dksX5_tell_3 13 rfl rfl)
theorem dX5_tell_84 : decode cX5_tell 84 = .ok (.if_icmp .ne 12, 3) := dk_160 0 12 (dk_at dksX5_tell_3 14 rfl rfl)
theorem dX5_tell_87 : decode cX5_tell 87 = .ok (.aload_n 0, 1) := dk_42 (dk_at dksX5_tell_3 17 rfl rfl)
theorem dX5_tell_88 : decode cX5_tell 88 = .ok (.getfield 19, 3) := dk_180 0 19 (dk_at dksX5_tell_3 18 rfl rfl)
theorem dX5_tell_91 : decode cX5_tell 91 = .ok (.iload_n 1, 1) := dk_27 (dk_at dksX5_tell_3 21 rfl rfl)
theorem dX5_tell_92 : decode cX5_tell 92 = .ok (.iaload, 1) := dk_46 (dk_at dksX5_tell_3 22 rfl rfl)
theorem dX5_tell_93 : decode cX5_tell 93 = .ok (.goto 9, 3) := dk_167 0 9 (dk_at dksX5_tell_4 0 rfl rfl)
theorem dX5_tell_96 : decode cX5_tell 96 = .ok (.aload_n 0, 1) := dk_42 (dk_at dksX5_tell_4 3 rfl rfl)
theorem dX5_tell_97 : decode cX5_tell 97 = .ok (.getfield 28, 3) := dk_180 0 28 (dk_at dksX5_tell_4 4 rfl rfl)
theorem dX5_tell_100 : decode cX5_tell 100 = .ok (.iload_n 1, 1) := dk_27 (dk_at dksX5_tell_4 7 rfl rfl)
theorem dX5_tell_101 : decode cX5_tell 101 = .ok (.iaload, 1) := dk_46 (dk_at dksX5_tell_4 8 rfl rfl)
theorem dX5_tell_102 : decode cX5_tell 102 = .ok (.istore 4, 2) := dk_54 4 (dk_at dksX5_tell_4 9 rfl rfl)
theorem dX5_tell_104 : decode cX5_tell 104 = .ok (.iload_n 2, 1) := dk_28 (dk_at dksX5_tell_4 11 rfl rfl)
theorem dX5_tell_105 : decode cX5_tell 105 = .ok (.ifCond .ne 13, 3) := dk_154 0 13 (dk_at dksX5_tell_4 12 rfl rfl)
theorem dX5_tell_108 : decode cX5_tell 108 = .ok (.aload_n 0, 1) := dk_42 (dk_at dksX5_tell_4 15 rfl rfl)
theorem dX5_tell_109 : decode cX5_tell 109 = .ok (.getfield 25, 3) := dk_180 0 25 (dk_at dksX5_tell_4 16 rfl rfl)
theorem dX5_tell_112 : decode cX5_tell 112 = .ok (.iload_n 1, 1) := dk_27 (dk_at dksX5_tell_4 19 rfl rfl)
theorem dX5_tell_113 : decode cX5_tell 113 = .ok (.iload_n 3, 1) := dk_29 (dk_at dksX5_tell_4 20 rfl rfl)
theorem dX5_tell_114 : decode cX5_tell 114 = .ok (.iastore, 1) := dk_79 (dk_at dksX5_tell_4 21 rfl rfl)
theorem dX5_tell_115 : decode cX5_tell 115 = .ok (.goto 25, 3) := dk_167 0 25 (dk_at dksX5_tell_5 0 rfl rfl)
theorem dX5_tell_118 : decode cX5_tell 118 = .ok (.iload_n 2, 1) := dk_28 (dk_at dksX5_tell_5 3 rfl rfl)
theorem dX5_tell_119 : decode cX5_tell 119 = .ok (.iconst 1, 1) := dk_4 (dk_at dksX5_tell_5 4 rfl rfl)
theorem dX5_tell_120 : decode cX5_tell 120 = .ok (.if_icmp .ne 13, 3) := dk_160 0 13 (dk_at dksX5_tell_5 5 rfl rfl)
theorem dX5_tell_123 : decode cX5_tell 123 = .ok (.aload_n 0, 1) := dk_42 (dk_at dksX5_tell_5 8 rfl rfl)
theorem dX5_tell_124 : decode cX5_tell 124 = .ok (.getfield 19, 3) := dk_180 0 19 (dk_at dksX5_tell_5 9 rfl rfl)
theorem dX5_tell_127 : decode cX5_tell 127 = .ok (.iload_n 1, 1) := dk_27 (dk_at dksX5_tell_5 12 rfl rfl)
theorem dX5_tell_128 : decode cX5_tell 128 = .ok (.iload_n 3, 1) := dk_29 (dk_at dksX5_tell_5 13 rfl rfl)
theorem dX5_tell_129 : decode cX5_tell 129 = .ok (.iastore, 1) := dk_79 (dk_at dksX5_tell_5 14 rfl rfl)
theorem dX5_tell_130 : decode cX5_tell 130 = .ok (.goto 10, 3) := dk_167 0 10 (dk_at dksX5_tell_5 15 rfl rfl)
theorem dX5_tell_133 : decode cX5_tell 133 = .ok (.aload_n 0, 1) := dk_42 (dk_at dksX5_tell_5 18 rfl rfl)
theorem dX5_tell_134 : decode cX5_tell 134 = .ok (.getfield 28, 3) := dk_180 0 28 (dk_at dksX5_tell_5 19 rfl rfl)
theorem dX5_tell_137 : decode cX5_tell 137 = .ok (.iload_n 1, 1) := dk_27 (dk_at dksX5_tell_5 22 rfl rfl)
theorem dX5_tell_138 : decode cX5_tell 138 = .ok (.iload_n 3, 1) := dk_29 (dk_at dksX5_tell_5 23 rfl rfl)
theorem dX5_tell_139 : decode cX5_tell 139 = .ok (.iastore, 1) := dk_79 (dk_at dksX5_tell_6 0 rfl rfl)
theorem dX5_tell_140 : decode cX5_tell 140 = .ok (.iload 4, 2) := dk_21 4 (dk_at dksX5_tell_6 1 rfl rfl)
theorem dX5_tell_142 : decode cX5_tell 142 = .ok (.ireturn, 1) := dk_172 (dk_at dksX5_tell_6 3 rfl rfl)
abbrev cX5_feed : ByteArray := prog_17_method_27_code
def yX5_feed : MethodName := ⟨RX5, "feed", "(I)I"⟩
def dkwX5_feed_2 : List UInt8 := [96, 181, 0, 131, 27, 79, 42, 180, 0, 131, 172]
abbrev dktX5_feed_2 : List UInt8 := dkwX5_feed_2 ++ []
def dkwX5_feed_1 : List UInt8 := [17, 0, 250, 160, 0, 10, 42, 16, 250, 182, 0, 96, 172, 42, 180, 0, 34, 42, 89, 180, 0, 131, 90, 4]
abbrev dktX5_feed_1 : List UInt8 := dkwX5_feed_1 ++ dktX5_feed_2
def dkwX5_feed_0 : List UInt8 := [27, 3, 17, 0, 255, 184, 0, 85, 154, 0, 10, 42, 16, 254, 182, 0, 96, 172, 42, 180, 0, 131]
abbrev dktX5_feed_0 : List UInt8 := dkwX5_feed_0 ++ dktX5_feed_1
theorem dksX5_feed_0 : cX5_feed.data.toList.drop 0 = dktX5_feed_0 := by decide +kernel
theorem dksX5_feed_1 : cX5_feed.data.toList.drop 22 = dktX5_feed_1 := dk_seg dksX5_feed_0 22 rfl rfl
theorem dksX5_feed_2 : cX5_feed.data.toList.drop 46 = dktX5_feed_2 := dk_seg dksX5_feed_1 24 rfl rfl
theorem dX5_feed_0 : decode cX5_feed 0 = .ok (.iload_n 1, 1) := dk_27 (dk_at dksX5_feed_0 0 rfl rfl)
theorem dX5_feed_1 : decode cX5_feed 1 = .ok (.iconst 0, 1) := dk_3 (dk_at dksX5_feed_0 1 rfl rfl)
theorem dX5_feed_2 : decode cX5_feed 2 = .ok (.sipush 255, 3) := dk_17 0 255 (dk_at dksX5_feed_0 2 rfl rfl)
theorem dX5_feed_5 : decode cX5_feed 5 = .ok (.invokestatic 85, 3) := dk_184 0 85 (dk_at dksX5_feed_0 5 rfl rfl)
theorem dX5_feed_8 : decode cX5_feed 8 = .ok (.ifCond .ne 10, 3) := dk_154 0 10 (dk_at dksX5_feed_0 8 rfl rfl)
theorem dX5_feed_11 : decode cX5_feed 11 = .ok (.aload_n 0, 1) := dk_42 (dk_at dksX5_feed_0 11 rfl rfl)
theorem dX5_feed_12 : decode cX5_feed 12 = .ok (.bipush (-2), 2) := dk_16 254 (dk_at dksX5_feed_0 12 rfl rfl)
theorem dX5_feed_14 : decode cX5_feed 14 = .ok (.invokevirtual 96, 3) := dk_182 0 96 (dk_at dksX5_feed_0 14 rfl rfl)
theorem dX5_feed_17 : decode cX5_feed 17 = .ok (.ireturn, 1) := dk_172 (dk_at dksX5_feed_0 17 rfl rfl)
theorem dX5_feed_18 : decode cX5_feed 18 = .ok (.aload_n 0, 1) := dk_42 (dk_at dksX5_feed_0 18 rfl rfl)
theorem dX5_feed_19 : decode cX5_feed 19 = .ok (.getfield 131, 3) := dk_180 0 131 (dk_at dksX5_feed_0 19 rfl rfl)
theorem dX5_feed_22 : decode cX5_feed 22 = .ok (.sipush 250, 3) := dk_17 0 250 (dk_at dksX5_feed_1 0 rfl rfl)
theorem dX5_feed_25 : decode cX5_feed 25 = .ok (.if_icmp .ne 10, 3) := dk_160 0 10 (dk_at dksX5_feed_1 3 rfl rfl)
theorem dX5_feed_28 : decode cX5_feed 28 = .ok (.aload_n 0, 1) := dk_42 (dk_at dksX5_feed_1 6 rfl rfl)
theorem dX5_feed_29 : decode cX5_feed 29 = .ok (.bipush (-6), 2) := dk_16 250 (dk_at dksX5_feed_1 7 rfl rfl)
theorem dX5_feed_31 : decode cX5_feed 31 = .ok (.invokevirtual 96, 3) := dk_182 0 96 (dk_at dksX5_feed_1 9 rfl rfl)
theorem dX5_feed_34 : decode cX5_feed 34 = .ok (.ireturn, 1) := dk_172 (dk_at dksX5_feed_1 12 rfl rfl)
theorem dX5_feed_35 : decode cX5_feed 35 = .ok (.aload_n 0, 1) := dk_42 (dk_at dksX5_feed_1 13 rfl rfl)
theorem dX5_feed_36 : decode cX5_feed 36 = .ok (.getfield 34, 3) := dk_180 0 34 (dk_at dksX5_feed_1 14 rfl rfl)
theorem dX5_feed_39 : decode cX5_feed 39 = .ok (.aload_n 0, 1) := dk_42 (dk_at dksX5_feed_1 17 rfl rfl)
theorem dX5_feed_40 : decode cX5_feed 40 = .ok (.dup, 1) := dk_89 (dk_at dksX5_feed_1 18 rfl rfl)
theorem dX5_feed_41 : decode cX5_feed 41 = .ok (.getfield 131, 3) := dk_180 0 131 (dk_at dksX5_feed_1 19 rfl rfl)
theorem dX5_feed_44 : decode cX5_feed 44 = .ok (.dup_x1, 1) := dk_90 (dk_at dksX5_feed_1 22 rfl rfl)
theorem dX5_feed_45 : decode cX5_feed 45 = .ok (.iconst 1, 1) := dk_4 (dk_at dksX5_feed_1 23 rfl rfl)
theorem dX5_feed_46 : decode cX5_feed 46 = .ok (.iadd, 1) := dk_96 (dk_at dksX5_feed_2 0 rfl rfl)
theorem dX5_feed_47 : decode cX5_feed 47 = .ok (.putfield 131, 3) := dk_181 0 131 (dk_at dksX5_feed_2 1 rfl rfl)
theorem dX5_feed_50 : decode cX5_feed 50 = .ok (.iload_n 1, 1) := dk_27 (dk_at dksX5_feed_2 4 rfl rfl)
theorem dX5_feed_51 : decode cX5_feed 51 = .ok (.iastore, 1) := dk_79 (dk_at dksX5_feed_2 5 rfl rfl)
theorem dX5_feed_52 : decode cX5_feed 52 = .ok (.aload_n 0, 1) := dk_42 (dk_at dksX5_feed_2 6 rfl rfl)
theorem dX5_feed_53 : decode cX5_feed 53 = .ok (.getfield 131, 3) := dk_180 0 131 (dk_at dksX5_feed_2 7 rfl rfl)
theorem dX5_feed_56 : decode cX5_feed 56 = .ok (.ireturn, 1) := dk_172 (dk_at dksX5_feed_2 10 rfl rfl)
abbrev cX5_wipe : ByteArray := prog_17_method_28_code
def yX5_wipe : MethodName := ⟨RX5, "wipe", "()I"⟩
def dkwX5_wipe_0 : List UInt8 := [42, 180, 0, 131, 60, 42, 3, 181, 0, 131, 27, 172]
abbrev dktX5_wipe_0 : List UInt8 := dkwX5_wipe_0 ++ []
theorem dksX5_wipe_0 : cX5_wipe.data.toList.drop 0 = dktX5_wipe_0 := by decide +kernel
theorem dX5_wipe_0 : decode cX5_wipe 0 = .ok (.aload_n 0, 1) := dk_42 (dk_at dksX5_wipe_0 0 rfl rfl)
theorem dX5_wipe_1 : decode cX5_wipe 1 = .ok (.getfield 131, 3) := dk_180 0 131 (dk_at dksX5_wipe_0 1 rfl rfl)
theorem dX5_wipe_4 : decode cX5_wipe 4 = .ok (.istore_n 1, 1) := dk_60 (dk_at dksX5_wipe_0 4 rfl rfl)
theorem dX5_wipe_5 : decode cX5_wipe 5 = .ok (.aload_n 0, 1) := dk_42 (dk_at dksX5_wipe_0 5 rfl rfl)
theorem dX5_wipe_6 : decode cX5_wipe 6 = .ok (.iconst 0, 1) := dk_3 (dk_at dksX5_wipe_0 6 rfl rfl)
theorem dX5_wipe_7 : decode cX5_wipe 7 = .ok (.putfield 131, 3) := dk_181 0 131 (dk_at dksX5_wipe_0 7 rfl rfl)
theorem dX5_wipe_10 : decode cX5_wipe 10 = .ok (.iload_n 1, 1) := dk_27 (dk_at dksX5_wipe_0 10 rfl rfl)
theorem dX5_wipe_11 : decode cX5_wipe 11 = .ok (.ireturn, 1) := dk_172 (dk_at dksX5_wipe_0 11 rfl rfl)
abbrev cX5_window : ByteArray := prog_17_method_35_code
def yX5_window : MethodName := ⟨RX5, "window", "()I"⟩
def dkwX5_window_4 : List UInt8 := [16, 254, 182, 0, 96, 87, 16, 236, 42, 180, 0, 137, 100, 172]
abbrev dktX5_window_4 : List UInt8 := dkwX5_window_4 ++ []
def dkwX5_window_3 : List UInt8 := [4, 167, 0, 4, 3, 61, 167, 255, 198, 42, 42, 180, 0, 53, 182, 0, 191, 42, 3, 181, 0, 131, 42]
abbrev dktX5_window_3 : List UInt8 := dkwX5_window_3 ++ dktX5_window_4
def dkwX5_window_2 : List UInt8 := [180, 0, 140, 16, 101, 160, 0, 10, 42, 3, 181, 0, 131, 27, 172, 42, 180, 0, 140, 16, 59, 160, 0, 7]
abbrev dktX5_window_2 : List UInt8 := dkwX5_window_2 ++ dktX5_window_3
def dkwX5_window_1 : List UInt8 := [182, 0, 162, 42, 182, 0, 187, 61, 28, 154, 0, 6, 167, 255, 239, 132, 1, 1, 42, 182, 0, 162, 42]
abbrev dktX5_window_1 : List UInt8 := dkwX5_window_1 ++ dktX5_window_2
def dkwX5_window_0 : List UInt8 := [42, 42, 180, 0, 53, 182, 0, 183, 42, 3, 181, 0, 134, 3, 60, 4, 61, 28, 153, 0, 60, 42]
abbrev dktX5_window_0 : List UInt8 := dkwX5_window_0 ++ dktX5_window_1
theorem dksX5_window_0 : cX5_window.data.toList.drop 0 = dktX5_window_0 := by decide +kernel
theorem dksX5_window_1 : cX5_window.data.toList.drop 22 = dktX5_window_1 := dk_seg dksX5_window_0 22 rfl rfl
theorem dksX5_window_2 : cX5_window.data.toList.drop 45 = dktX5_window_2 := dk_seg dksX5_window_1 23 rfl rfl
theorem dksX5_window_3 : cX5_window.data.toList.drop 69 = dktX5_window_3 := dk_seg dksX5_window_2 24 rfl rfl
theorem dksX5_window_4 : cX5_window.data.toList.drop 92 = dktX5_window_4 := dk_seg dksX5_window_3 23 rfl rfl
theorem dX5_window_0 : decode cX5_window 0 = .ok (.aload_n 0, 1) := dk_42 (dk_at dksX5_window_0 0 rfl rfl)
theorem dX5_window_1 : decode cX5_window 1 = .ok (.aload_n 0, 1) := dk_42 (dk_at dksX5_window_0 1 rfl rfl)
theorem dX5_window_2 : decode cX5_window 2 = .ok (.getfield 53, 3) := dk_180 0 53 (dk_at dksX5_window_0 2 rfl rfl)
theorem dX5_window_5 : decode cX5_window 5 = .ok (.invokevirtual 183, 3) := dk_182 0 183 (dk_at dksX5_window_0 5 rfl rfl)
theorem dX5_window_8 : decode cX5_window 8 = .ok (.aload_n 0, 1) := dk_42 (dk_at dksX5_window_0 8 rfl rfl)
theorem dX5_window_9 : decode cX5_window 9 = .ok (.iconst 0, 1) := dk_3 (dk_at dksX5_window_0 9 rfl rfl)
theorem dX5_window_10 : decode cX5_window 10 = .ok (.putfield 134, 3) := dk_181 0 134 (dk_at dksX5_window_0 10 rfl rfl)
theorem dX5_window_13 : decode cX5_window 13 = .ok (.iconst 0, 1) := dk_3 (dk_at dksX5_window_0 13 rfl rfl)
theorem dX5_window_14 : decode cX5_window 14 = .ok (.istore_n 1, 1) := dk_60 (dk_at dksX5_window_0 14 rfl rfl)
theorem dX5_window_15 : decode cX5_window 15 = .ok (.iconst 1, 1) := dk_4 (dk_at dksX5_window_0 15 rfl rfl)
theorem dX5_window_16 : decode cX5_window 16 = .ok (.istore_n 2, 1) := dk_61 (dk_at dksX5_window_0 16 rfl rfl)
theorem dX5_window_17 : decode cX5_window 17 = .ok (.iload_n 2, 1) := dk_28 (dk_at dksX5_window_0 17 rfl rfl)
theorem dX5_window_18 : decode cX5_window 18 = .ok (.ifCond .eq 60, 3) := dk_153 0 60 (dk_at dksX5_window_0 18 rfl rfl)
theorem dX5_window_21 : decode cX5_window 21 = .ok (.aload_n 0, 1) := dk_42 (dk_at dksX5_window_0 21 rfl rfl)
theorem dX5_window_22 : decode cX5_window 22 = .ok (.invokevirtual 162, 3) := dk_182 0 162 (dk_at dksX5_window_1 0 rfl rfl)
theorem dX5_window_25 : decode cX5_window 25 = .ok (.aload_n 0, 1) := dk_42 (dk_at dksX5_window_1 3 rfl rfl)
theorem dX5_window_26 : decode cX5_window 26 = .ok (.invokevirtual 187, 3) := dk_182 0 187 (dk_at dksX5_window_1 4 rfl rfl)
theorem dX5_window_29 : decode cX5_window 29 = .ok (.istore_n 2, 1) := dk_61 (dk_at dksX5_window_1 7 rfl rfl)
theorem dX5_window_30 : decode cX5_window 30 = .ok (.iload_n 2, 1) := dk_28 (dk_at dksX5_window_1 8 rfl rfl)
theorem dX5_window_31 : decode cX5_window 31 = .ok (.ifCond .ne 6, 3) := dk_154 0 6 (dk_at dksX5_window_1 9 rfl rfl)
theorem dX5_window_34 : decode cX5_window 34 = .ok (.goto (-17), 3) := dk_167 255 239 (dk_at dksX5_window_1 12 rfl rfl)
theorem dX5_window_37 : decode cX5_window 37 = .ok (.iinc 1 1, 3) := dk_132 1 1 (dk_at dksX5_window_1 15 rfl rfl)
theorem dX5_window_40 : decode cX5_window 40 = .ok (.aload_n 0, 1) := dk_42 (dk_at dksX5_window_1 18 rfl rfl)
theorem dX5_window_41 : decode cX5_window 41 = .ok (.invokevirtual 162, 3) := dk_182 0 162 (dk_at dksX5_window_1 19 rfl rfl)
theorem dX5_window_44 : decode cX5_window 44 = .ok (.aload_n 0, 1) := dk_42 (dk_at dksX5_window_1 22 rfl rfl)
theorem dX5_window_45 : decode cX5_window 45 = .ok (.getfield 140, 3) := dk_180 0 140 (dk_at dksX5_window_2 0 rfl rfl)
theorem dX5_window_48 : decode cX5_window 48 = .ok (.bipush 101, 2) := dk_16 101 (dk_at dksX5_window_2 3 rfl rfl)
theorem dX5_window_50 : decode cX5_window 50 = .ok (.if_icmp .ne 10, 3) := dk_160 0 10 (dk_at dksX5_window_2 5 rfl rfl)
theorem dX5_window_53 : decode cX5_window 53 = .ok (.aload_n 0, 1) := dk_42 (dk_at dksX5_window_2 8 rfl rfl)
theorem dX5_window_54 : decode cX5_window 54 = .ok (.iconst 0, 1) := dk_3 (dk_at dksX5_window_2 9 rfl rfl)
theorem dX5_window_55 : decode cX5_window 55 = .ok (.putfield 131, 3) := dk_181 0 131 (dk_at dksX5_window_2 10 rfl rfl)
theorem dX5_window_58 : decode cX5_window 58 = .ok (.iload_n 1, 1) := dk_27 (dk_at dksX5_window_2 13 rfl rfl)
theorem dX5_window_59 : decode cX5_window 59 = .ok (.ireturn, 1) := dk_172 (dk_at dksX5_window_2 14 rfl rfl)
theorem dX5_window_60 : decode cX5_window 60 = .ok (.aload_n 0, 1) := dk_42 (dk_at dksX5_window_2 15 rfl rfl)
theorem dX5_window_61 : decode cX5_window 61 = .ok (.getfield 140, 3) := dk_180 0 140 (dk_at dksX5_window_2 16 rfl rfl)
theorem dX5_window_64 : decode cX5_window 64 = .ok (.bipush 59, 2) := dk_16 59 (dk_at dksX5_window_2 19 rfl rfl)
theorem dX5_window_66 : decode cX5_window 66 = .ok (.if_icmp .ne 7, 3) := dk_160 0 7 (dk_at dksX5_window_2 21 rfl rfl)
theorem dX5_window_69 : decode cX5_window 69 = .ok (.iconst 1, 1) := dk_4 (dk_at dksX5_window_3 0 rfl rfl)
theorem dX5_window_70 : decode cX5_window 70 = .ok (.goto 4, 3) := dk_167 0 4 (dk_at dksX5_window_3 1 rfl rfl)
theorem dX5_window_73 : decode cX5_window 73 = .ok (.iconst 0, 1) := dk_3 (dk_at dksX5_window_3 4 rfl rfl)
theorem dX5_window_74 : decode cX5_window 74 = .ok (.istore_n 2, 1) := dk_61 (dk_at dksX5_window_3 5 rfl rfl)
theorem dX5_window_75 : decode cX5_window 75 = .ok (.goto (-58), 3) := dk_167 255 198 (dk_at dksX5_window_3 6 rfl rfl)
theorem dX5_window_78 : decode cX5_window 78 = .ok (.aload_n 0, 1) := dk_42 (dk_at dksX5_window_3 9 rfl rfl)
theorem dX5_window_79 : decode cX5_window 79 = .ok (.aload_n 0, 1) := dk_42 (dk_at dksX5_window_3 10 rfl rfl)
theorem dX5_window_80 : decode cX5_window 80 = .ok (.getfield 53, 3) := dk_180 0 53 (dk_at dksX5_window_3 11 rfl rfl)
theorem dX5_window_83 : decode cX5_window 83 = .ok (.invokevirtual 191, 3) := dk_182 0 191 (dk_at dksX5_window_3 14 rfl rfl)
theorem dX5_window_86 : decode cX5_window 86 = .ok (.aload_n 0, 1) := dk_42 (dk_at dksX5_window_3 17 rfl rfl)
theorem dX5_window_87 : decode cX5_window 87 = .ok (.iconst 0, 1) := dk_3 (dk_at dksX5_window_3 18 rfl rfl)
theorem dX5_window_88 : decode cX5_window 88 = .ok (.putfield 131, 3) := dk_181 0 131 (dk_at dksX5_window_3 19 rfl rfl)
theorem dX5_window_91 : decode cX5_window 91 = .ok (.aload_n 0, 1) := dk_42 (dk_at dksX5_window_3 22 rfl rfl)
theorem dX5_window_92 : decode cX5_window 92 = .ok (.bipush (-2), 2) := dk_16 254 (dk_at dksX5_window_4 0 rfl rfl)
theorem dX5_window_94 : decode cX5_window 94 = .ok (.invokevirtual 96, 3) := dk_182 0 96 (dk_at dksX5_window_4 2 rfl rfl)
theorem dX5_window_97 : decode cX5_window 97 = .ok (.pop, 1) := dk_87 (dk_at dksX5_window_4 5 rfl rfl)
theorem dX5_window_98 : decode cX5_window 98 = .ok (.bipush (-20), 2) := dk_16 236 (dk_at dksX5_window_4 6 rfl rfl)
theorem dX5_window_100 : decode cX5_window 100 = .ok (.aload_n 0, 1) := dk_42 (dk_at dksX5_window_4 8 rfl rfl)
theorem dX5_window_101 : decode cX5_window 101 = .ok (.getfield 137, 3) := dk_180 0 137 (dk_at dksX5_window_4 9 rfl rfl)
theorem dX5_window_104 : decode cX5_window 104 = .ok (.isub, 1) := dk_100 (dk_at dksX5_window_4 12 rfl rfl)
theorem dX5_window_105 : decode cX5_window 105 = .ok (.ireturn, 1) := dk_172 (dk_at dksX5_window_4 13 rfl rfl)
abbrev cX5_keep : ByteArray := prog_17_method_99_code
def yX5_keep : MethodName := ⟨RX5, "keep", "([I)V"⟩
def dkwX5_keep_6 : List UInt8 := [16, 125, 42, 180, 1, 48, 79, 43, 16, 126, 42, 180, 0, 81, 79, 177]
abbrev dktX5_keep_6 : List UInt8 := dkwX5_keep_6 ++ []
def dkwX5_keep_5 : List UInt8 := [28, 96, 42, 180, 0, 31, 28, 46, 79, 132, 2, 1, 167, 255, 235, 43, 16, 124, 42, 180, 0, 89, 79, 43]
abbrev dktX5_keep_5 : List UInt8 := dkwX5_keep_5 ++ dktX5_keep_6
def dkwX5_keep_4 : List UInt8 := [42, 180, 0, 28, 28, 46, 79, 132, 2, 1, 167, 255, 175, 3, 61, 28, 16, 64, 162, 0, 21, 43, 16, 60]
abbrev dktX5_keep_4 : List UInt8 := dkwX5_keep_4 ++ dktX5_keep_5
def dkwX5_keep_3 : List UInt8 := [42, 180, 0, 22, 28, 46, 79, 43, 16, 44, 28, 96, 42, 180, 0, 25, 28, 46, 79, 43, 16, 52, 28, 96]
abbrev dktX5_keep_3 : List UInt8 := dkwX5_keep_3 ++ dktX5_keep_4
def dkwX5_keep_2 : List UInt8 := [42, 180, 0, 16, 28, 46, 79, 43, 16, 28, 28, 96, 42, 180, 0, 19, 28, 46, 79, 43, 16, 36, 28, 96]
abbrev dktX5_keep_2 : List UInt8 := dkwX5_keep_2 ++ dktX5_keep_3
def dkwX5_keep_1 : List UInt8 := [61, 28, 16, 8, 162, 0, 81, 43, 16, 12, 28, 96, 42, 180, 0, 13, 28, 46, 79, 43, 16, 20, 28, 96]
abbrev dktX5_keep_1 : List UInt8 := dkwX5_keep_1 ++ dktX5_keep_2
def dkwX5_keep_0 : List UInt8 := [3, 61, 28, 16, 12, 162, 0, 18, 43, 28, 42, 180, 0, 9, 28, 46, 79, 132, 2, 1, 167, 255, 238, 3]
abbrev dktX5_keep_0 : List UInt8 := dkwX5_keep_0 ++ dktX5_keep_1
theorem dksX5_keep_0 : cX5_keep.data.toList.drop 0 = dktX5_keep_0 := by decide +kernel
theorem dksX5_keep_1 : cX5_keep.data.toList.drop 24 = dktX5_keep_1 := dk_seg dksX5_keep_0 24 rfl rfl
theorem dksX5_keep_2 : cX5_keep.data.toList.drop 48 = dktX5_keep_2 := dk_seg dksX5_keep_1 24 rfl rfl
theorem dksX5_keep_3 : cX5_keep.data.toList.drop 72 = dktX5_keep_3 := dk_seg dksX5_keep_2 24 rfl rfl
theorem dksX5_keep_4 : cX5_keep.data.toList.drop 96 = dktX5_keep_4 := dk_seg dksX5_keep_3 24 rfl rfl
theorem dksX5_keep_5 : cX5_keep.data.toList.drop 120 = dktX5_keep_5 := dk_seg dksX5_keep_4 24 rfl rfl
theorem dksX5_keep_6 : cX5_keep.data.toList.drop 144 = dktX5_keep_6 := dk_seg dksX5_keep_5 24 rfl rfl
theorem dX5_keep_0 : decode cX5_keep 0 = .ok (.iconst 0, 1) := dk_3 (dk_at dksX5_keep_0 0 rfl rfl)
theorem dX5_keep_1 : decode cX5_keep 1 = .ok (.istore_n 2, 1) := dk_61 (dk_at dksX5_keep_0 1 rfl rfl)
theorem dX5_keep_2 : decode cX5_keep 2 = .ok (.iload_n 2, 1) := dk_28 (dk_at dksX5_keep_0 2 rfl rfl)
theorem dX5_keep_3 : decode cX5_keep 3 = .ok (.bipush 12, 2) := dk_16 12 (dk_at dksX5_keep_0 3 rfl rfl)
theorem dX5_keep_5 : decode cX5_keep 5 = .ok (.if_icmp .ge 18, 3) := dk_162 0 18 (dk_at dksX5_keep_0 5 rfl rfl)
theorem dX5_keep_8 : decode cX5_keep 8 = .ok (.aload_n 1, 1) := dk_43 (dk_at dksX5_keep_0 8 rfl rfl)
theorem dX5_keep_9 : decode cX5_keep 9 = .ok (.iload_n 2, 1) := dk_28 (dk_at dksX5_keep_0 9 rfl rfl)
theorem dX5_keep_10 : decode cX5_keep 10 = .ok (.aload_n 0, 1) := dk_42 (dk_at dksX5_keep_0 10 rfl rfl)
theorem dX5_keep_11 : decode cX5_keep 11 = .ok (.getfield 9, 3) := dk_180 0 9 (dk_at dksX5_keep_0 11 rfl rfl)
theorem dX5_keep_14 : decode cX5_keep 14 = .ok (.iload_n 2, 1) := dk_28 (dk_at dksX5_keep_0 14 rfl rfl)
theorem dX5_keep_15 : decode cX5_keep 15 = .ok (.iaload, 1) := dk_46 (dk_at dksX5_keep_0 15 rfl rfl)
theorem dX5_keep_16 : decode cX5_keep 16 = .ok (.iastore, 1) := dk_79 (dk_at dksX5_keep_0 16 rfl rfl)
theorem dX5_keep_17 : decode cX5_keep 17 = .ok (.iinc 2 1, 3) := dk_132 2 1 (dk_at dksX5_keep_0 17 rfl rfl)
theorem dX5_keep_20 : decode cX5_keep 20 = .ok (.goto (-18), 3) := dk_167 255 238 (dk_at dksX5_keep_0 20 rfl rfl)
theorem dX5_keep_23 : decode cX5_keep 23 = .ok (.iconst 0, 1) := dk_3 (dk_at dksX5_keep_0 23 rfl rfl)
theorem dX5_keep_24 : decode cX5_keep 24 = .ok (.istore_n 2, 1) := dk_61 (dk_at dksX5_keep_1 0 rfl rfl)
theorem dX5_keep_25 : decode cX5_keep 25 = .ok (.iload_n 2, 1) := dk_28 (dk_at dksX5_keep_1 1 rfl rfl)
theorem dX5_keep_26 : decode cX5_keep 26 = .ok (.bipush 8, 2) := dk_16 8 (dk_at dksX5_keep_1 2 rfl rfl)
theorem dX5_keep_28 : decode cX5_keep 28 = .ok (.if_icmp .ge 81, 3) := dk_162 0 81 (dk_at dksX5_keep_1 4 rfl rfl)
theorem dX5_keep_31 : decode cX5_keep 31 = .ok (.aload_n 1, 1) := dk_43 (dk_at dksX5_keep_1 7 rfl rfl)
theorem dX5_keep_32 : decode cX5_keep 32 = .ok (.bipush 12, 2) := dk_16 12 (dk_at dksX5_keep_1 8 rfl rfl)
theorem dX5_keep_34 : decode cX5_keep 34 = .ok (.iload_n 2, 1) := dk_28 (dk_at dksX5_keep_1 10 rfl rfl)
theorem dX5_keep_35 : decode cX5_keep 35 = .ok (.iadd, 1) := dk_96 (dk_at dksX5_keep_1 11 rfl rfl)
theorem dX5_keep_36 : decode cX5_keep 36 = .ok (.aload_n 0, 1) := dk_42 (dk_at dksX5_keep_1 12 rfl rfl)
theorem dX5_keep_37 : decode cX5_keep 37 = .ok (.getfield 13, 3) := dk_180 0 13 (dk_at dksX5_keep_1 13 rfl rfl)
theorem dX5_keep_40 : decode cX5_keep 40 = .ok (.iload_n 2, 1) := dk_28 (dk_at dksX5_keep_1 16 rfl rfl)
theorem dX5_keep_41 : decode cX5_keep 41 = .ok (.iaload, 1) := dk_46 (dk_at dksX5_keep_1 17 rfl rfl)
theorem dX5_keep_42 : decode cX5_keep 42 = .ok (.iastore, 1) := dk_79 (dk_at dksX5_keep_1 18 rfl rfl)
theorem dX5_keep_43 : decode cX5_keep 43 = .ok (.aload_n 1, 1) := dk_43 (dk_at dksX5_keep_1 19 rfl rfl)
theorem dX5_keep_44 : decode cX5_keep 44 = .ok (.bipush 20, 2) := dk_16 20 (dk_at dksX5_keep_1 20 rfl rfl)
theorem dX5_keep_46 : decode cX5_keep 46 = .ok (.iload_n 2, 1) := dk_28 (dk_at dksX5_keep_1 22 rfl rfl)
theorem dX5_keep_47 : decode cX5_keep 47 = .ok (.iadd, 1) := dk_96 (dk_at dksX5_keep_1 23 rfl rfl)
theorem dX5_keep_48 : decode cX5_keep 48 = .ok (.aload_n 0, 1) := dk_42 (dk_at dksX5_keep_2 0 rfl rfl)
theorem dX5_keep_49 : decode cX5_keep 49 = .ok (.getfield 16, 3) := dk_180 0 16 (dk_at dksX5_keep_2 1 rfl rfl)
theorem dX5_keep_52 : decode cX5_keep 52 = .ok (.iload_n 2, 1) := dk_28 (dk_at dksX5_keep_2 4 rfl rfl)
theorem dX5_keep_53 : decode cX5_keep 53 = .ok (.iaload, 1) := dk_46 (dk_at dksX5_keep_2 5 rfl rfl)
theorem dX5_keep_54 : decode cX5_keep 54 = .ok (.iastore, 1) := dk_79 (dk_at dksX5_keep_2 6 rfl rfl)
theorem dX5_keep_55 : decode cX5_keep 55 = .ok (.aload_n 1, 1) := dk_43 (dk_at dksX5_keep_2 7 rfl rfl)
theorem dX5_keep_56 : decode cX5_keep 56 = .ok (.bipush 28, 2) := dk_16 28 (dk_at dksX5_keep_2 8 rfl rfl)
theorem dX5_keep_58 : decode cX5_keep 58 = .ok (.iload_n 2, 1) := dk_28 (dk_at dksX5_keep_2 10 rfl rfl)
theorem dX5_keep_59 : decode cX5_keep 59 = .ok (.iadd, 1) := dk_96 (dk_at dksX5_keep_2 11 rfl rfl)
theorem dX5_keep_60 : decode cX5_keep 60 = .ok (.aload_n 0, 1) := dk_42 (dk_at dksX5_keep_2 12 rfl rfl)
theorem dX5_keep_61 : decode cX5_keep 61 = .ok (.getfield 19, 3) := dk_180 0 19 (dk_at dksX5_keep_2 13 rfl rfl)
theorem dX5_keep_64 : decode cX5_keep 64 = .ok (.iload_n 2, 1) := dk_28 (dk_at dksX5_keep_2 16 rfl rfl)
theorem dX5_keep_65 : decode cX5_keep 65 = .ok (.iaload, 1) := dk_46 (dk_at dksX5_keep_2 17 rfl rfl)
theorem dX5_keep_66 : decode cX5_keep 66 = .ok (.iastore, 1) := dk_79 (dk_at dksX5_keep_2 18 rfl rfl)
theorem dX5_keep_67 : decode cX5_keep 67 = .ok (.aload_n 1, 1) := dk_43 (dk_at dksX5_keep_2 19 rfl rfl)
theorem dX5_keep_68 : decode cX5_keep 68 = .ok (.bipush 36, 2) := dk_16 36 (dk_at dksX5_keep_2 20 rfl rfl)
theorem dX5_keep_70 : decode cX5_keep 70 = .ok (.iload_n 2, 1) := dk_28 (dk_at dksX5_keep_2 22 rfl rfl)
theorem dX5_keep_71 : decode cX5_keep 71 = .ok (.iadd, 1) := dk_96 (dk_at dksX5_keep_2 23 rfl rfl)
theorem dX5_keep_72 : decode cX5_keep 72 = .ok (.aload_n 0, 1) := dk_42 (dk_at dksX5_keep_3 0 rfl rfl)
theorem dX5_keep_73 : decode cX5_keep 73 = .ok (.getfield 22, 3) := dk_180 0 22 (dk_at dksX5_keep_3 1 rfl rfl)
theorem dX5_keep_76 : decode cX5_keep 76 = .ok (.iload_n 2, 1) := dk_28 (dk_at dksX5_keep_3 4 rfl rfl)
theorem dX5_keep_77 : decode cX5_keep 77 = .ok (.iaload, 1) := dk_46 (dk_at dksX5_keep_3 5 rfl rfl)
theorem dX5_keep_78 : decode cX5_keep 78 = .ok (.iastore, 1) := dk_79 (dk_at dksX5_keep_3 6 rfl rfl)
theorem dX5_keep_79 : decode cX5_keep 79 = .ok (.aload_n 1, 1) := dk_43 (dk_at dksX5_keep_3 7 rfl rfl)
theorem dX5_keep_80 : decode cX5_keep 80 = .ok (.bipush 44, 2) := dk_16 44 (dk_at dksX5_keep_3 8 rfl rfl)
theorem dX5_keep_82 : decode cX5_keep 82 = .ok (.iload_n 2, 1) := dk_28 (dk_at dksX5_keep_3 10 rfl rfl)
theorem dX5_keep_83 : decode cX5_keep 83 = .ok (.iadd, 1) := dk_96 (dk_at dksX5_keep_3 11 rfl rfl)
theorem dX5_keep_84 : decode cX5_keep 84 = .ok (.aload_n 0, 1) := dk_42 (dk_at dksX5_keep_3 12 rfl rfl)
theorem dX5_keep_85 : decode cX5_keep 85 = .ok (.getfield 25, 3) := dk_180 0 25 (dk_at dksX5_keep_3 13 rfl rfl)
theorem dX5_keep_88 : decode cX5_keep 88 = .ok (.iload_n 2, 1) := dk_28 (dk_at dksX5_keep_3 16 rfl rfl)
theorem dX5_keep_89 : decode cX5_keep 89 = .ok (.iaload, 1) := dk_46 (dk_at dksX5_keep_3 17 rfl rfl)
theorem dX5_keep_90 : decode cX5_keep 90 = .ok (.iastore, 1) := dk_79 (dk_at dksX5_keep_3 18 rfl rfl)
theorem dX5_keep_91 : decode cX5_keep 91 = .ok (.aload_n 1, 1) := dk_43 (dk_at dksX5_keep_3 19 rfl rfl)
theorem dX5_keep_92 : decode cX5_keep 92 = .ok (.bipush 52, 2) := dk_16 52 (dk_at dksX5_keep_3 20 rfl rfl)
theorem dX5_keep_94 : decode cX5_keep 94 = .ok (.iload_n 2, 1) := dk_28 (dk_at dksX5_keep_3 22 rfl rfl)
theorem dX5_keep_95 : decode cX5_keep 95 = .ok (.iadd, 1) := dk_96 (dk_at dksX5_keep_3 23 rfl rfl)
theorem dX5_keep_96 : decode cX5_keep 96 = .ok (.aload_n 0, 1) := dk_42 (dk_at dksX5_keep_4 0 rfl rfl)
theorem dX5_keep_97 : decode cX5_keep 97 = .ok (.getfield 28, 3) := dk_180 0 28 (dk_at dksX5_keep_4 1 rfl rfl)
theorem dX5_keep_100 : decode cX5_keep 100 = .ok (.iload_n 2, 1) := dk_28 (dk_at dksX5_keep_4 4 rfl rfl)
theorem dX5_keep_101 : decode cX5_keep 101 = .ok (.iaload, 1) := dk_46 (dk_at dksX5_keep_4 5 rfl rfl)
theorem dX5_keep_102 : decode cX5_keep 102 = .ok (.iastore, 1) := dk_79 (dk_at dksX5_keep_4 6 rfl rfl)
theorem dX5_keep_103 : decode cX5_keep 103 = .ok (.iinc 2 1, 3) := dk_132 2 1 (dk_at dksX5_keep_4 7 rfl rfl)
theorem dX5_keep_106 : decode cX5_keep 106 = .ok (.goto (-81), 3) := dk_167 255 175 (dk_at dksX5_keep_4 10 rfl rfl)
theorem dX5_keep_109 : decode cX5_keep 109 = .ok (.iconst 0, 1) := dk_3 (dk_at dksX5_keep_4 13 rfl rfl)
theorem dX5_keep_110 : decode cX5_keep 110 = .ok (.istore_n 2, 1) := dk_61 (dk_at dksX5_keep_4 14 rfl rfl)
theorem dX5_keep_111 : decode cX5_keep 111 = .ok (.iload_n 2, 1) := dk_28 (dk_at dksX5_keep_4 15 rfl rfl)
theorem dX5_keep_112 : decode cX5_keep 112 = .ok (.bipush 64, 2) := dk_16 64 (dk_at dksX5_keep_4 16 rfl rfl)
theorem dX5_keep_114 : decode cX5_keep 114 = .ok (.if_icmp .ge 21, 3) := dk_162 0 21 (dk_at dksX5_keep_4 18 rfl rfl)
theorem dX5_keep_117 : decode cX5_keep 117 = .ok (.aload_n 1, 1) := dk_43 (dk_at dksX5_keep_4 21 rfl rfl)
theorem dX5_keep_118 : decode cX5_keep 118 = .ok (.bipush 60, 2) := dk_16 60 (dk_at dksX5_keep_4 22 rfl rfl)
theorem dX5_keep_120 : decode cX5_keep 120 = .ok (.iload_n 2, 1) := dk_28 (dk_at dksX5_keep_5 0 rfl rfl)
theorem dX5_keep_121 : decode cX5_keep 121 = .ok (.iadd, 1) := dk_96 (dk_at dksX5_keep_5 1 rfl rfl)
theorem dX5_keep_122 : decode cX5_keep 122 = .ok (.aload_n 0, 1) := dk_42 (dk_at dksX5_keep_5 2 rfl rfl)
theorem dX5_keep_123 : decode cX5_keep 123 = .ok (.getfield 31, 3) := dk_180 0 31 (dk_at dksX5_keep_5 3 rfl rfl)
theorem dX5_keep_126 : decode cX5_keep 126 = .ok (.iload_n 2, 1) := dk_28 (dk_at dksX5_keep_5 6 rfl rfl)
theorem dX5_keep_127 : decode cX5_keep 127 = .ok (.iaload, 1) := dk_46 (dk_at dksX5_keep_5 7 rfl rfl)
theorem dX5_keep_128 : decode cX5_keep 128 = .ok (.iastore, 1) := dk_79 (dk_at dksX5_keep_5 8 rfl rfl)
theorem dX5_keep_129 : decode cX5_keep 129 = .ok (.iinc 2 1, 3) := dk_132 2 1 (dk_at dksX5_keep_5 9 rfl rfl)
theorem dX5_keep_132 : decode cX5_keep 132 = .ok (.goto (-21), 3) := dk_167 255 235 (dk_at dksX5_keep_5 12 rfl rfl)
theorem dX5_keep_135 : decode cX5_keep 135 = .ok (.aload_n 1, 1) := dk_43 (dk_at dksX5_keep_5 15 rfl rfl)
theorem dX5_keep_136 : decode cX5_keep 136 = .ok (.bipush 124, 2) := dk_16 124 (dk_at dksX5_keep_5 16 rfl rfl)
theorem dX5_keep_138 : decode cX5_keep 138 = .ok (.aload_n 0, 1) := dk_42 (dk_at dksX5_keep_5 18 rfl rfl)
theorem dX5_keep_139 : decode cX5_keep 139 = .ok (.getfield 89, 3) := dk_180 0 89 (dk_at dksX5_keep_5 19 rfl rfl)
theorem dX5_keep_142 : decode cX5_keep 142 = .ok (.iastore, 1) := dk_79 (dk_at dksX5_keep_5 22 rfl rfl)
theorem dX5_keep_143 : decode cX5_keep 143 = .ok (.aload_n 1, 1) := dk_43 (dk_at dksX5_keep_5 23 rfl rfl)
theorem dX5_keep_144 : decode cX5_keep 144 = .ok (.bipush 125, 2) := dk_16 125 (dk_at dksX5_keep_6 0 rfl rfl)
theorem dX5_keep_146 : decode cX5_keep 146 = .ok (.aload_n 0, 1) := dk_42 (dk_at dksX5_keep_6 2 rfl rfl)
theorem dX5_keep_147 : decode cX5_keep 147 = .ok (.getfield 304, 3) := dk_180 1 48 (dk_at dksX5_keep_6 3 rfl rfl)
theorem dX5_keep_150 : decode cX5_keep 150 = .ok (.iastore, 1) := dk_79 (dk_at dksX5_keep_6 6 rfl rfl)
theorem dX5_keep_151 : decode cX5_keep 151 = .ok (.aload_n 1, 1) := dk_43 (dk_at dksX5_keep_6 7 rfl rfl)
theorem dX5_keep_152 : decode cX5_keep 152 = .ok (.bipush 126, 2) := dk_16 126 (dk_at dksX5_keep_6 8 rfl rfl)
theorem dX5_keep_154 : decode cX5_keep 154 = .ok (.aload_n 0, 1) := dk_42 (dk_at dksX5_keep_6 10 rfl rfl)
theorem dX5_keep_155 : decode cX5_keep 155 = .ok (.getfield 81, 3) := dk_180 0 81 (dk_at dksX5_keep_6 11 rfl rfl)
theorem dX5_keep_158 : decode cX5_keep 158 = .ok (.iastore, 1) := dk_79 (dk_at dksX5_keep_6 14 rfl rfl)
theorem dX5_keep_159 : decode cX5_keep 159 = .ok (.return_, 1) := dk_177 (dk_at dksX5_keep_6 15 rfl rfl)
abbrev cX5_next : ByteArray := prog_17_method_31_code
def yX5_next : MethodName := ⟨RX5, "next", "()V"⟩
def dkwX5_next_11 : List UInt8 := [181, 0, 140, 167, 0, 20, 42, 27, 16, 59, 160, 0, 8, 16, 59, 167, 0, 5, 16, 120, 181, 0, 140, 177]
abbrev dktX5_next_11 : List UInt8 := dkwX5_next_11 ++ []
def dkwX5_next_10 : List UInt8 := [167, 255, 183, 42, 42, 180, 0, 134, 42, 180, 0, 137, 100, 5, 164, 0, 8, 16, 120, 167, 0, 5, 16, 48]
abbrev dktX5_next_10 : List UInt8 := dkwX5_next_10 ++ dktX5_next_11
def dkwX5_next_9 : List UInt8 := [42, 180, 0, 134, 46, 96, 16, 48, 100, 181, 0, 149, 42, 89, 180, 0, 134, 4, 96, 181, 0, 134]
abbrev dktX5_next_9 : List UInt8 := dkwX5_next_9 ++ dktX5_next_10
def dkwX5_next_8 : List UInt8 := [180, 0, 134, 42, 180, 0, 137, 100, 5, 162, 0, 27, 42, 16, 10, 42, 180, 0, 149, 104, 42, 180, 0, 34]
abbrev dktX5_next_8 : List UInt8 := dkwX5_next_8 ++ dktX5_next_9
def dkwX5_next_7 : List UInt8 := [180, 0, 131, 162, 0, 68, 42, 180, 0, 34, 42, 180, 0, 134, 46, 184, 0, 146, 153, 0, 53, 42]
abbrev dktX5_next_7 : List UInt8 := dkwX5_next_7 ++ dktX5_next_8
def dkwX5_next_6 : List UInt8 := [167, 0, 138, 27, 184, 0, 146, 153, 0, 114, 42, 27, 16, 48, 100, 181, 0, 149, 42, 180, 0, 134, 42]
abbrev dktX5_next_6 : List UInt8 := dkwX5_next_6 ++ dktX5_next_7
def dkwX5_next_5 : List UInt8 := [153, 0, 16, 42, 89, 180, 0, 134, 4, 96, 181, 0, 134, 167, 255, 220, 42, 16, 119, 181, 0, 140]
abbrev dktX5_next_5 : List UInt8 := dkwX5_next_5 ++ dktX5_next_6
def dkwX5_next_4 : List UInt8 := [42, 180, 0, 134, 42, 180, 0, 131, 162, 0, 31, 42, 180, 0, 34, 42, 180, 0, 134, 46, 184, 0, 143]
abbrev dktX5_next_4 : List UInt8 := dkwX5_next_4 ++ dktX5_next_5
def dkwX5_next_3 : List UInt8 := [42, 180, 0, 34, 42, 89, 180, 0, 134, 90, 4, 96, 181, 0, 134, 46, 60, 27, 184, 0, 143, 153, 0, 51]
abbrev dktX5_next_3 : List UInt8 := dkwX5_next_3 ++ dktX5_next_4
def dkwX5_next_2 : List UInt8 := [180, 0, 137, 181, 0, 134, 42, 180, 0, 137, 42, 180, 0, 131, 160, 0, 10, 42, 16, 101, 181, 0, 140, 177]
abbrev dktX5_next_2 : List UInt8 := dkwX5_next_2 ++ dktX5_next_3
def dkwX5_next_1 : List UInt8 := [180, 0, 137, 46, 16, 32, 160, 0, 16, 42, 89, 180, 0, 137, 4, 96, 181, 0, 137, 167, 255, 221, 42, 42]
abbrev dktX5_next_1 : List UInt8 := dkwX5_next_1 ++ dktX5_next_2
def dkwX5_next_0 : List UInt8 := [42, 42, 180, 0, 134, 181, 0, 137, 42, 180, 0, 137, 42, 180, 0, 131, 162, 0, 30, 42, 180, 0, 34, 42]
abbrev dktX5_next_0 : List UInt8 := dkwX5_next_0 ++ dktX5_next_1
theorem dksX5_next_0 : cX5_next.data.toList.drop 0 = dktX5_next_0 := by decide +kernel
theorem dksX5_next_1 : cX5_next.data.toList.drop 24 = dktX5_next_1 := dk_seg dksX5_next_0 24 rfl rfl
theorem dksX5_next_2 : cX5_next.data.toList.drop 48 = dktX5_next_2 := dk_seg dksX5_next_1 24 rfl rfl
theorem dksX5_next_3 : cX5_next.data.toList.drop 72 = dktX5_next_3 := dk_seg dksX5_next_2 24 rfl rfl
theorem dksX5_next_4 : cX5_next.data.toList.drop 96 = dktX5_next_4 := dk_seg dksX5_next_3 24 rfl rfl
theorem dksX5_next_5 : cX5_next.data.toList.drop 119 = dktX5_next_5 := dk_seg dksX5_next_4 23 rfl rfl
theorem dksX5_next_6 : cX5_next.data.toList.drop 141 = dktX5_next_6 := dk_seg dksX5_next_5 22 rfl rfl
theorem dksX5_next_7 : cX5_next.data.toList.drop 164 = dktX5_next_7 := dk_seg dksX5_next_6 23 rfl rfl
theorem dksX5_next_8 : cX5_next.data.toList.drop 186 = dktX5_next_8 := dk_seg dksX5_next_7 22 rfl rfl
theorem dksX5_next_9 : cX5_next.data.toList.drop 210 = dktX5_next_9 := dk_seg dksX5_next_8 24 rfl rfl
theorem dksX5_next_10 : cX5_next.data.toList.drop 232 = dktX5_next_10 := dk_seg dksX5_next_9 22 rfl rfl
theorem dksX5_next_11 : cX5_next.data.toList.drop 256 = dktX5_next_11 := dk_seg dksX5_next_10 24 rfl rfl
theorem dX5_next_0 : decode cX5_next 0 = .ok (.aload_n 0, 1) := dk_42 (dk_at dksX5_next_0 0 rfl rfl)
theorem dX5_next_1 : decode cX5_next 1 = .ok (.aload_n 0, 1) := dk_42 (dk_at dksX5_next_0 1 rfl rfl)
theorem dX5_next_2 : decode cX5_next 2 = .ok (.getfield 134, 3) := dk_180 0 134 (dk_at dksX5_next_0 2 rfl rfl)
theorem dX5_next_5 : decode cX5_next 5 = .ok (.putfield 137, 3) := dk_181 0 137 (dk_at dksX5_next_0 5 rfl rfl)
theorem dX5_next_8 : decode cX5_next 8 = .ok (.aload_n 0, 1) := dk_42 (dk_at dksX5_next_0 8 rfl rfl)
theorem dX5_next_9 : decode cX5_next 9 = .ok (.getfield 137, 3) := dk_180 0 137 (dk_at dksX5_next_0 9 rfl rfl)
theorem dX5_next_12 : decode cX5_next 12 = .ok (.aload_n 0, 1) := dk_42 (dk_at dksX5_next_0 12 rfl rfl)
theorem dX5_next_13 : decode cX5_next 13 = .ok (.getfield 131, 3) := dk_180 0 131 (dk_at dksX5_next_0 13 rfl rfl)
theorem dX5_next_16 : decode cX5_next 16 = .ok (.if_icmp .ge 30, 3) := dk_162 0 30 (dk_at dksX5_next_0 16 rfl rfl)
theorem dX5_next_19 : decode cX5_next 19 = .ok (.aload_n 0, 1) := dk_42 (dk_at dksX5_next_0 19 rfl rfl)
theorem dX5_next_20 : decode cX5_next 20 = .ok (.getfield 34, 3) := dk_180 0 34 (dk_at dksX5_next_0 20 rfl rfl)
theorem dX5_next_23 : decode cX5_next 23 = .ok (.aload_n 0, 1) := dk_42 (dk_at dksX5_next_0 23 rfl rfl)
theorem dX5_next_24 : decode cX5_next 24 = .ok (.getfield 137, 3) := dk_180 0 137 (dk_at dksX5_next_1 0 rfl rfl)
theorem dX5_next_27 : decode cX5_next 27 = .ok (.iaload, 1) := dk_46 (dk_at dksX5_next_1 3 rfl rfl)
theorem dX5_next_28 : decode cX5_next 28 = .ok (.bipush 32, 2) := dk_16 32 (dk_at dksX5_next_1 4 rfl rfl)
theorem dX5_next_30 : decode cX5_next 30 = .ok (.if_icmp .ne 16, 3) := dk_160 0 16 (dk_at dksX5_next_1 6 rfl rfl)
theorem dX5_next_33 : decode cX5_next 33 = .ok (.aload_n 0, 1) := dk_42 (dk_at dksX5_next_1 9 rfl rfl)
theorem dX5_next_34 : decode cX5_next 34 = .ok (.dup, 1) := dk_89 (dk_at dksX5_next_1 10 rfl rfl)
theorem dX5_next_35 : decode cX5_next 35 = .ok (.getfield 137, 3) := dk_180 0 137 (dk_at dksX5_next_1 11 rfl rfl)
theorem dX5_next_38 : decode cX5_next 38 = .ok (.iconst 1, 1) := dk_4 (dk_at dksX5_next_1 14 rfl rfl)
theorem dX5_next_39 : decode cX5_next 39 = .ok (.iadd, 1) := dk_96 (dk_at dksX5_next_1 15 rfl rfl)
theorem dX5_next_40 : decode cX5_next 40 = .ok (.putfield 137, 3) := dk_181 0 137 (dk_at dksX5_next_1 16 rfl rfl)
theorem dX5_next_43 : decode cX5_next 43 = .ok (.goto (-35), 3) := dk_167 255 221 (dk_at dksX5_next_1 19 rfl rfl)
theorem dX5_next_46 : decode cX5_next 46 = .ok (.aload_n 0, 1) := dk_42 (dk_at dksX5_next_1 22 rfl rfl)
theorem dX5_next_47 : decode cX5_next 47 = .ok (.aload_n 0, 1) := dk_42 (dk_at dksX5_next_1 23 rfl rfl)
theorem dX5_next_48 : decode cX5_next 48 = .ok (.getfield 137, 3) := dk_180 0 137 (dk_at dksX5_next_2 0 rfl rfl)
theorem dX5_next_51 : decode cX5_next 51 = .ok (.putfield 134, 3) := dk_181 0 134 (dk_at dksX5_next_2 3 rfl rfl)
theorem dX5_next_54 : decode cX5_next 54 = .ok (.aload_n 0, 1) := dk_42 (dk_at dksX5_next_2 6 rfl rfl)
theorem dX5_next_55 : decode cX5_next 55 = .ok (.getfield 137, 3) := dk_180 0 137 (dk_at dksX5_next_2 7 rfl rfl)
theorem dX5_next_58 : decode cX5_next 58 = .ok (.aload_n 0, 1) := dk_42 (dk_at dksX5_next_2 10 rfl rfl)
theorem dX5_next_59 : decode cX5_next 59 = .ok (.getfield 131, 3) := dk_180 0 131 (dk_at dksX5_next_2 11 rfl rfl)
theorem dX5_next_62 : decode cX5_next 62 = .ok (.if_icmp .ne 10, 3) := dk_160 0 10 (dk_at dksX5_next_2 14 rfl rfl)
theorem dX5_next_65 : decode cX5_next 65 = .ok (.aload_n 0, 1) := dk_42 (dk_at dksX5_next_2 17 rfl rfl)
theorem dX5_next_66 : decode cX5_next 66 = .ok (.bipush 101, 2) := dk_16 101 (dk_at dksX5_next_2 18 rfl rfl)
theorem dX5_next_68 : decode cX5_next 68 = .ok (.putfield 140, 3) := dk_181 0 140 (dk_at dksX5_next_2 20 rfl rfl)
theorem dX5_next_71 : decode cX5_next 71 = .ok (.return_, 1) := dk_177 (dk_at dksX5_next_2 23 rfl rfl)
theorem dX5_next_72 : decode cX5_next 72 = .ok (.aload_n 0, 1) := dk_42 (dk_at dksX5_next_3 0 rfl rfl)
theorem dX5_next_73 : decode cX5_next 73 = .ok (.getfield 34, 3) := dk_180 0 34 (dk_at dksX5_next_3 1 rfl rfl)
theorem dX5_next_76 : decode cX5_next 76 = .ok (.aload_n 0, 1) := dk_42 (dk_at dksX5_next_3 4 rfl rfl)
theorem dX5_next_77 : decode cX5_next 77 = .ok (.dup, 1) := dk_89 (dk_at dksX5_next_3 5 rfl rfl)
theorem dX5_next_78 : decode cX5_next 78 = .ok (.getfield 134, 3) := dk_180 0 134 (dk_at dksX5_next_3 6 rfl rfl)
theorem dX5_next_81 : decode cX5_next 81 = .ok (.dup_x1, 1) := dk_90 (dk_at dksX5_next_3 9 rfl rfl)
theorem dX5_next_82 : decode cX5_next 82 = .ok (.iconst 1, 1) := dk_4 (dk_at dksX5_next_3 10 rfl rfl)
theorem dX5_next_83 : decode cX5_next 83 = .ok (.iadd, 1) := dk_96 (dk_at dksX5_next_3 11 rfl rfl)
theorem dX5_next_84 : decode cX5_next 84 = .ok (.putfield 134, 3) := dk_181 0 134 (dk_at dksX5_next_3 12 rfl rfl)
theorem dX5_next_87 : decode cX5_next 87 = .ok (.iaload, 1) := dk_46 (dk_at dksX5_next_3 15 rfl rfl)
theorem dX5_next_88 : decode cX5_next 88 = .ok (.istore_n 1, 1) := dk_60 (dk_at dksX5_next_3 16 rfl rfl)
theorem dX5_next_89 : decode cX5_next 89 = .ok (.iload_n 1, 1) := dk_27 (dk_at dksX5_next_3 17 rfl rfl)
theorem dX5_next_90 : decode cX5_next 90 = .ok (.invokestatic 143, 3) := dk_184 0 143 (dk_at dksX5_next_3 18 rfl rfl)
theorem dX5_next_93 : decode cX5_next 93 = .ok (.ifCond .eq 51, 3) := dk_153 0 51 (dk_at dksX5_next_3 21 rfl rfl)
theorem dX5_next_96 : decode cX5_next 96 = .ok (.aload_n 0, 1) := dk_42 (dk_at dksX5_next_4 0 rfl rfl)
theorem dX5_next_97 : decode cX5_next 97 = .ok (.getfield 134, 3) := dk_180 0 134 (dk_at dksX5_next_4 1 rfl rfl)
theorem dX5_next_100 : decode cX5_next 100 = .ok (.aload_n 0, 1) := dk_42 (dk_at dksX5_next_4 4 rfl rfl)
theorem dX5_next_101 : decode cX5_next 101 = .ok (.getfield 131, 3) := dk_180 0 131 (dk_at dksX5_next_4 5 rfl rfl)
theorem dX5_next_104 : decode cX5_next 104 = .ok (.if_icmp .ge 31, 3) := dk_162 0 31 (dk_at dksX5_next_4 8 rfl rfl)
theorem dX5_next_107 : decode cX5_next 107 = .ok (.aload_n 0, 1) := dk_42 (dk_at dksX5_next_4 11 rfl rfl)
theorem dX5_next_108 : decode cX5_next 108 = .ok (.getfield 34, 3) := dk_180 0 34 (dk_at dksX5_next_4 12 rfl rfl)
theorem dX5_next_111 : decode cX5_next 111 = .ok (.aload_n 0, 1) := dk_42 (dk_at dksX5_next_4 15 rfl rfl)
theorem dX5_next_112 : decode cX5_next 112 = .ok (.getfield 134, 3) := dk_180 0 134 (dk_at dksX5_next_4 16 rfl rfl)
theorem dX5_next_115 : decode cX5_next 115 = .ok (.iaload, 1) := dk_46 (dk_at dksX5_next_4 19 rfl rfl)
theorem dX5_next_116 : decode cX5_next 116 = .ok (.invokestatic 143, 3) := dk_184 0 143 (dk_at dksX5_next_4 20 rfl rfl)
theorem dX5_next_119 : decode cX5_next 119 = .ok (.ifCond .eq 16, 3) := dk_153 0 16 (dk_at dksX5_next_5 0 rfl rfl)
theorem dX5_next_122 : decode cX5_next 122 = .ok (.aload_n 0, 1) := dk_42 (dk_at dksX5_next_5 3 rfl rfl)
theorem dX5_next_123 : decode cX5_next 123 = .ok (.dup, 1) := dk_89 (dk_at dksX5_next_5 4 rfl rfl)
theorem dX5_next_124 : decode cX5_next 124 = .ok (.getfield 134, 3) := dk_180 0 134 (dk_at dksX5_next_5 5 rfl rfl)
theorem dX5_next_127 : decode cX5_next 127 = .ok (.iconst 1, 1) := dk_4 (dk_at dksX5_next_5 8 rfl rfl)
theorem dX5_next_128 : decode cX5_next 128 = .ok (.iadd, 1) := dk_96 (dk_at dksX5_next_5 9 rfl rfl)
theorem dX5_next_129 : decode cX5_next 129 = .ok (.putfield 134, 3) := dk_181 0 134 (dk_at dksX5_next_5 10 rfl rfl)
theorem dX5_next_132 : decode cX5_next 132 = .ok (.goto (-36), 3) := dk_167 255 220 (dk_at dksX5_next_5 13 rfl rfl)
theorem dX5_next_135 : decode cX5_next 135 = .ok (.aload_n 0, 1) := dk_42 (dk_at dksX5_next_5 16 rfl rfl)
theorem dX5_next_136 : decode cX5_next 136 = .ok (.bipush 119, 2) := dk_16 119 (dk_at dksX5_next_5 17 rfl rfl)
theorem dX5_next_138 : decode cX5_next 138 = .ok (.putfield 140, 3) := dk_181 0 140 (dk_at dksX5_next_5 19 rfl rfl)
theorem dX5_next_141 : decode cX5_next 141 = .ok (.goto 138, 3) := dk_167 0 138 (dk_at dksX5_next_6 0 rfl rfl)
theorem dX5_next_144 : decode cX5_next 144 = .ok (.iload_n 1, 1) := dk_27 (dk_at dksX5_next_6 3 rfl rfl)
theorem dX5_next_145 : decode cX5_next 145 = .ok (.invokestatic 146, 3) := dk_184 0 146 (dk_at dksX5_next_6 4 rfl rfl)
theorem dX5_next_148 : decode cX5_next 148 = .ok (.ifCond .eq 114, 3) := dk_153 0 114 (dk_at dksX5_next_6 7 rfl rfl)
theorem dX5_next_151 : decode cX5_next 151 = .ok (.aload_n 0, 1) := dk_42 (dk_at dksX5_next_6 10 rfl rfl)
theorem dX5_next_152 : decode cX5_next 152 = .ok (.iload_n 1, 1) := dk_27 (dk_at dksX5_next_6 11 rfl rfl)
theorem dX5_next_153 : decode cX5_next 153 = .ok (.bipush 48, 2) := dk_16 48 (dk_at dksX5_next_6 12 rfl rfl)
theorem dX5_next_155 : decode cX5_next 155 = .ok (.isub, 1) := dk_100 (dk_at dksX5_next_6 14 rfl rfl)
theorem dX5_next_156 : decode cX5_next 156 = .ok (.putfield 149, 3) := dk_181 0 149 (dk_at dksX5_next_6 15 rfl rfl)
theorem dX5_next_159 : decode cX5_next 159 = .ok (.aload_n 0, 1) := dk_42 (dk_at dksX5_next_6 18 rfl rfl)
theorem dX5_next_160 : decode cX5_next 160 = .ok (.getfield 134, 3) := dk_180 0 134 (dk_at dksX5_next_6 19 rfl rfl)
theorem dX5_next_163 : decode cX5_next 163 = .ok (.aload_n 0, 1) := dk_42 (dk_at dksX5_next_6 22 rfl rfl)
theorem dX5_next_164 : decode cX5_next 164 = .ok (.getfield 131, 3) := dk_180 0 131 (dk_at dksX5_next_7 0 rfl rfl)
theorem dX5_next_167 : decode cX5_next 167 = .ok (.if_icmp .ge 68, 3) := dk_162 0 68 (dk_at dksX5_next_7 3 rfl rfl)
theorem dX5_next_170 : decode cX5_next 170 = .ok (.aload_n 0, 1) := dk_42 (dk_at dksX5_next_7 6 rfl rfl)
theorem dX5_next_171 : decode cX5_next 171 = .ok (.getfield 34, 3) := dk_180 0 34 (dk_at dksX5_next_7 7 rfl rfl)
theorem dX5_next_174 : decode cX5_next 174 = .ok (.aload_n 0, 1) := dk_42 (dk_at dksX5_next_7 10 rfl rfl)
theorem dX5_next_175 : decode cX5_next 175 = .ok (.getfield 134, 3) := dk_180 0 134 (dk_at dksX5_next_7 11 rfl rfl)
theorem dX5_next_178 : decode cX5_next 178 = .ok (.iaload, 1) := dk_46 (dk_at dksX5_next_7 14 rfl rfl)
theorem dX5_next_179 : decode cX5_next 179 = .ok (.invokestatic 146, 3) := dk_184 0 146 (dk_at dksX5_next_7 15 rfl rfl)
theorem dX5_next_182 : decode cX5_next 182 = .ok (.ifCond .eq 53, 3) := dk_153 0 53 (dk_at dksX5_next_7 18 rfl rfl)
theorem dX5_next_185 : decode cX5_next 185 = .ok (.aload_n 0, 1) := dk_42 (dk_at dksX5_next_7 21 rfl rfl)
theorem dX5_next_186 : decode cX5_next 186 = .ok (.getfield 134, 3) := dk_180 0 134 (dk_at dksX5_next_8 0 rfl rfl)
theorem dX5_next_189 : decode cX5_next 189 = .ok (.aload_n 0, 1) := dk_42 (dk_at dksX5_next_8 3 rfl rfl)
theorem dX5_next_190 : decode cX5_next 190 = .ok (.getfield 137, 3) := dk_180 0 137 (dk_at dksX5_next_8 4 rfl rfl)
theorem dX5_next_193 : decode cX5_next 193 = .ok (.isub, 1) := dk_100 (dk_at dksX5_next_8 7 rfl rfl)
theorem dX5_next_194 : decode cX5_next 194 = .ok (.iconst 2, 1) := dk_5 (dk_at dksX5_next_8 8 rfl rfl)
theorem dX5_next_195 : decode cX5_next 195 = .ok (.if_icmp .ge 27, 3) := dk_162 0 27 (dk_at dksX5_next_8 9 rfl rfl)
theorem dX5_next_198 : decode cX5_next 198 = .ok (.aload_n 0, 1) := dk_42 (dk_at dksX5_next_8 12 rfl rfl)
theorem dX5_next_199 : decode cX5_next 199 = .ok (.bipush 10, 2) := dk_16 10 (dk_at dksX5_next_8 13 rfl rfl)
theorem dX5_next_201 : decode cX5_next 201 = .ok (.aload_n 0, 1) := dk_42 (dk_at dksX5_next_8 15 rfl rfl)
theorem dX5_next_202 : decode cX5_next 202 = .ok (.getfield 149, 3) := dk_180 0 149 (dk_at dksX5_next_8 16 rfl rfl)
theorem dX5_next_205 : decode cX5_next 205 = .ok (.imul, 1) := dk_104 (dk_at dksX5_next_8 19 rfl rfl)
theorem dX5_next_206 : decode cX5_next 206 = .ok (.aload_n 0, 1) := dk_42 (dk_at dksX5_next_8 20 rfl rfl)
theorem dX5_next_207 : decode cX5_next 207 = .ok (.getfield 34, 3) := dk_180 0 34 (dk_at dksX5_next_8 21 rfl rfl)
theorem dX5_next_210 : decode cX5_next 210 = .ok (.aload_n 0, 1) := dk_42 (dk_at dksX5_next_9 0 rfl rfl)
theorem dX5_next_211 : decode cX5_next 211 = .ok (.getfield 134, 3) := dk_180 0 134 (dk_at dksX5_next_9 1 rfl rfl)
theorem dX5_next_214 : decode cX5_next 214 = .ok (.iaload, 1) := dk_46 (dk_at dksX5_next_9 4 rfl rfl)
theorem dX5_next_215 : decode cX5_next 215 = .ok (.iadd, 1) := dk_96 (dk_at dksX5_next_9 5 rfl rfl)
theorem dX5_next_216 : decode cX5_next 216 = .ok (.bipush 48, 2) := dk_16 48 (dk_at dksX5_next_9 6 rfl rfl)
theorem dX5_next_218 : decode cX5_next 218 = .ok (.isub, 1) := dk_100 (dk_at dksX5_next_9 8 rfl rfl)
theorem dX5_next_219 : decode cX5_next 219 = .ok (.putfield 149, 3) := dk_181 0 149 (dk_at dksX5_next_9 9 rfl rfl)
theorem dX5_next_222 : decode cX5_next 222 = .ok (.aload_n 0, 1) := dk_42 (dk_at dksX5_next_9 12 rfl rfl)
theorem dX5_next_223 : decode cX5_next 223 = .ok (.dup, 1) := dk_89 (dk_at dksX5_next_9 13 rfl rfl)
theorem dX5_next_224 : decode cX5_next 224 = .ok (.getfield 134, 3) := dk_180 0 134 (dk_at dksX5_next_9 14 rfl rfl)
theorem dX5_next_227 : decode cX5_next 227 = .ok (.iconst 1, 1) := dk_4 (dk_at dksX5_next_9 17 rfl rfl)
theorem dX5_next_228 : decode cX5_next 228 = .ok (.iadd, 1) := dk_96 (dk_at dksX5_next_9 18 rfl rfl)
theorem dX5_next_229 : decode cX5_next 229 = .ok (.putfield 134, 3) := dk_181 0 134 (dk_at dksX5_next_9 19 rfl rfl)
theorem dX5_next_232 : decode cX5_next 232 = .ok (.goto (-73), 3) := dk_167 255 183 (dk_at dksX5_next_10 0 rfl rfl)
theorem dX5_next_235 : decode cX5_next 235 = .ok (.aload_n 0, 1) := dk_42 (dk_at dksX5_next_10 3 rfl rfl)
theorem dX5_next_236 : decode cX5_next 236 = .ok (.aload_n 0, 1) := dk_42 (dk_at dksX5_next_10 4 rfl rfl)
theorem dX5_next_237 : decode cX5_next 237 = .ok (.getfield 134, 3) := dk_180 0 134 (dk_at dksX5_next_10 5 rfl rfl)
theorem dX5_next_240 : decode cX5_next 240 = .ok (.aload_n 0, 1) := dk_42 (dk_at dksX5_next_10 8 rfl rfl)
theorem dX5_next_241 : decode cX5_next 241 = .ok (.getfield 137, 3) := dk_180 0 137 (dk_at dksX5_next_10 9 rfl rfl)
theorem dX5_next_244 : decode cX5_next 244 = .ok (.isub, 1) := dk_100 (dk_at dksX5_next_10 12 rfl rfl)
theorem dX5_next_245 : decode cX5_next 245 = .ok (.iconst 2, 1) := dk_5 (dk_at dksX5_next_10 13 rfl rfl)
theorem dX5_next_246 : decode cX5_next 246 = .ok (.if_icmp .le 8, 3) := dk_164 0 8 (dk_at dksX5_next_10 14 rfl rfl)
theorem dX5_next_249 : decode cX5_next 249 = .ok (.bipush 120, 2) := dk_16 120 (dk_at dksX5_next_10 17 rfl rfl)
theorem dX5_next_251 : decode cX5_next 251 = .ok (.goto 5, 3) := dk_167 0 5 (dk_at dksX5_next_10 19 rfl rfl)
theorem dX5_next_254 : decode cX5_next 254 = .ok (.bipush 48, 2) := dk_16 48 (dk_at dksX5_next_10 22 rfl rfl)
theorem dX5_next_256 : decode cX5_next 256 = .ok (.putfield 140, 3) := dk_181 0 140 (dk_at dksX5_next_11 0 rfl rfl)
theorem dX5_next_259 : decode cX5_next 259 = .ok (.goto 20, 3) := dk_167 0 20 (dk_at dksX5_next_11 3 rfl rfl)
theorem dX5_next_262 : decode cX5_next 262 = .ok (.aload_n 0, 1) := dk_42 (dk_at dksX5_next_11 6 rfl rfl)
theorem dX5_next_263 : decode cX5_next 263 = .ok (.iload_n 1, 1) := dk_27 (dk_at dksX5_next_11 7 rfl rfl)
theorem dX5_next_264 : decode cX5_next 264 = .ok (.bipush 59, 2) := dk_16 59 (dk_at dksX5_next_11 8 rfl rfl)
theorem dX5_next_266 : decode cX5_next 266 = .ok (.if_icmp .ne 8, 3) := dk_160 0 8 (dk_at dksX5_next_11 10 rfl rfl)
theorem dX5_next_269 : decode cX5_next 269 = .ok (.bipush 59, 2) := dk_16 59 (dk_at dksX5_next_11 13 rfl rfl)
theorem dX5_next_271 : decode cX5_next 271 = .ok (.goto 5, 3) := dk_167 0 5 (dk_at dksX5_next_11 15 rfl rfl)
theorem dX5_next_274 : decode cX5_next 274 = .ok (.bipush 120, 2) := dk_16 120 (dk_at dksX5_next_11 18 rfl rfl)
theorem dX5_next_276 : decode cX5_next 276 = .ok (.putfield 140, 3) := dk_181 0 140 (dk_at dksX5_next_11 20 rfl rfl)
theorem dX5_next_279 : decode cX5_next 279 = .ok (.return_, 1) := dk_177 (dk_at dksX5_next_11 23 rfl rfl)
abbrev cX5_isLetter : ByteArray := prog_17_method_29_code
def yX5_isLetter : MethodName := ⟨RX5, "isLetter", "(I)Z"⟩
def dkwX5_isLetter_0 : List UInt8 := [26, 16, 97, 161, 0, 13, 26, 16, 122, 163, 0, 7, 4, 167, 0, 4, 3, 172]
abbrev dktX5_isLetter_0 : List UInt8 := dkwX5_isLetter_0 ++ []
theorem dksX5_isLetter_0 : cX5_isLetter.data.toList.drop 0 = dktX5_isLetter_0 := by decide +kernel
theorem dX5_isLetter_0 : decode cX5_isLetter 0 = .ok (.iload_n 0, 1) := dk_26 (dk_at dksX5_isLetter_0 0 rfl rfl)
theorem dX5_isLetter_1 : decode cX5_isLetter 1 = .ok (.bipush 97, 2) := dk_16 97 (dk_at dksX5_isLetter_0 1 rfl rfl)
theorem dX5_isLetter_3 : decode cX5_isLetter 3 = .ok (.if_icmp .lt 13, 3) := dk_161 0 13 (dk_at dksX5_isLetter_0 3 rfl rfl)
theorem dX5_isLetter_6 : decode cX5_isLetter 6 = .ok (.iload_n 0, 1) := dk_26 (dk_at dksX5_isLetter_0 6 rfl rfl)
theorem dX5_isLetter_7 : decode cX5_isLetter 7 = .ok (.bipush 122, 2) := dk_16 122 (dk_at dksX5_isLetter_0 7 rfl rfl)
theorem dX5_isLetter_9 : decode cX5_isLetter 9 = .ok (.if_icmp .gt 7, 3) := dk_163 0 7 (dk_at dksX5_isLetter_0 9 rfl rfl)
theorem dX5_isLetter_12 : decode cX5_isLetter 12 = .ok (.iconst 1, 1) := dk_4 (dk_at dksX5_isLetter_0 12 rfl rfl)
theorem dX5_isLetter_13 : decode cX5_isLetter 13 = .ok (.goto 4, 3) := dk_167 0 4 (dk_at dksX5_isLetter_0 13 rfl rfl)
theorem dX5_isLetter_16 : decode cX5_isLetter 16 = .ok (.iconst 0, 1) := dk_3 (dk_at dksX5_isLetter_0 16 rfl rfl)
theorem dX5_isLetter_17 : decode cX5_isLetter 17 = .ok (.ireturn, 1) := dk_172 (dk_at dksX5_isLetter_0 17 rfl rfl)
abbrev cX5_isDigit : ByteArray := prog_17_method_30_code
def yX5_isDigit : MethodName := ⟨RX5, "isDigit", "(I)Z"⟩
def dkwX5_isDigit_0 : List UInt8 := [26, 16, 48, 161, 0, 13, 26, 16, 57, 163, 0, 7, 4, 167, 0, 4, 3, 172]
abbrev dktX5_isDigit_0 : List UInt8 := dkwX5_isDigit_0 ++ []
theorem dksX5_isDigit_0 : cX5_isDigit.data.toList.drop 0 = dktX5_isDigit_0 := by decide +kernel
theorem dX5_isDigit_0 : decode cX5_isDigit 0 = .ok (.iload_n 0, 1) := dk_26 (dk_at dksX5_isDigit_0 0 rfl rfl)
theorem dX5_isDigit_1 : decode cX5_isDigit 1 = .ok (.bipush 48, 2) := dk_16 48 (dk_at dksX5_isDigit_0 1 rfl rfl)
theorem dX5_isDigit_3 : decode cX5_isDigit 3 = .ok (.if_icmp .lt 13, 3) := dk_161 0 13 (dk_at dksX5_isDigit_0 3 rfl rfl)
theorem dX5_isDigit_6 : decode cX5_isDigit 6 = .ok (.iload_n 0, 1) := dk_26 (dk_at dksX5_isDigit_0 6 rfl rfl)
theorem dX5_isDigit_7 : decode cX5_isDigit 7 = .ok (.bipush 57, 2) := dk_16 57 (dk_at dksX5_isDigit_0 7 rfl rfl)
theorem dX5_isDigit_9 : decode cX5_isDigit 9 = .ok (.if_icmp .gt 7, 3) := dk_163 0 7 (dk_at dksX5_isDigit_0 9 rfl rfl)
theorem dX5_isDigit_12 : decode cX5_isDigit 12 = .ok (.iconst 1, 1) := dk_4 (dk_at dksX5_isDigit_0 12 rfl rfl)
theorem dX5_isDigit_13 : decode cX5_isDigit 13 = .ok (.goto 4, 3) := dk_167 0 4 (dk_at dksX5_isDigit_0 13 rfl rfl)
theorem dX5_isDigit_16 : decode cX5_isDigit 16 = .ok (.iconst 0, 1) := dk_3 (dk_at dksX5_isDigit_0 16 rfl rfl)
theorem dX5_isDigit_17 : decode cX5_isDigit 17 = .ok (.ireturn, 1) := dk_172 (dk_at dksX5_isDigit_0 17 rfl rfl)
abbrev cX5_statement : ByteArray := prog_17_method_34_code
def yX5_statement : MethodName := ⟨RX5, "statement", "()Z"⟩
def dkwX5_statement_12 : List UInt8 := [180, 0, 25, 27, 28, 79, 167, 0, 10, 42, 180, 0, 28, 27, 28, 79, 4, 172]
abbrev dktX5_statement_12 : List UInt8 := dkwX5_statement_12 ++ []
def dkwX5_statement_11 : List UInt8 := [154, 0, 18, 42, 180, 0, 22, 27, 92, 46, 4, 28, 120, 128, 79, 167, 0, 25, 29, 4, 160, 0, 13, 42]
abbrev dktX5_statement_11 : List UInt8 := dkwX5_statement_11 ++ dktX5_statement_12
def dkwX5_statement_10 : List UInt8 := [160, 0, 8, 16, 12, 167, 0, 5, 16, 7, 182, 0, 171, 61, 28, 2, 160, 0, 5, 3, 172, 29]
abbrev dktX5_statement_10 : List UInt8 := dkwX5_statement_10 ++ dktX5_statement_11
def dkwX5_statement_9 : List UInt8 := [180, 0, 89, 4, 100, 182, 0, 171, 60, 27, 2, 160, 0, 7, 2, 167, 0, 20, 42, 3, 29, 4]
abbrev dktX5_statement_9 : List UInt8 := dkwX5_statement_9 ++ dktX5_statement_10
def dkwX5_statement_8 : List UInt8 := [18, 182, 182, 0, 167, 153, 0, 7, 5, 167, 0, 4, 2, 62, 29, 2, 160, 0, 5, 3, 172, 42, 3, 42]
abbrev dktX5_statement_8 : List UInt8 := dkwX5_statement_8 ++ dktX5_statement_9
def dkwX5_statement_7 : List UInt8 := [182, 0, 167, 153, 0, 7, 3, 167, 0, 30, 42, 18, 181, 182, 0, 167, 153, 0, 7, 4, 167, 0, 17, 42]
abbrev dktX5_statement_7 : List UInt8 := dkwX5_statement_7 ++ dktX5_statement_8
def dkwX5_statement_6 : List UInt8 := [182, 0, 171, 62, 29, 2, 160, 0, 5, 3, 172, 42, 27, 28, 29, 182, 0, 127, 87, 4, 172, 42, 18, 179]
abbrev dktX5_statement_6 : List UInt8 := dkwX5_statement_6 ++ dktX5_statement_7
def dkwX5_statement_5 : List UInt8 := [167, 0, 10, 42, 3, 16, 7, 182, 0, 171, 61, 28, 2, 160, 0, 7, 2, 167, 0, 10, 42, 3, 16, 99]
abbrev dktX5_statement_5 : List UInt8 := dkwX5_statement_5 ++ dktX5_statement_6
def dkwX5_statement_4 : List UInt8 := [180, 0, 89, 16, 8, 160, 0, 5, 3, 172, 42, 3, 8, 182, 0, 171, 60, 27, 2, 160, 0, 7, 2]
abbrev dktX5_statement_4 : List UInt8 := dkwX5_statement_4 ++ dktX5_statement_5
def dkwX5_statement_3 : List UInt8 := [160, 0, 5, 3, 172, 42, 180, 0, 9, 27, 2, 79, 4, 172, 42, 18, 177, 182, 0, 167, 153, 0, 72, 42]
abbrev dktX5_statement_3 : List UInt8 := dkwX5_statement_3 ++ dktX5_statement_4
def dkwX5_statement_2 : List UInt8 := [79, 4, 172, 42, 18, 175, 182, 0, 167, 153, 0, 27, 42, 3, 16, 11, 182, 0, 171, 60, 27, 2]
abbrev dktX5_statement_2 : List UInt8 := dkwX5_statement_2 ++ dktX5_statement_3
def dkwX5_statement_1 : List UInt8 := [167, 0, 10, 42, 3, 16, 7, 182, 0, 171, 61, 28, 2, 160, 0, 5, 3, 172, 42, 180, 0, 9, 27, 28]
abbrev dktX5_statement_1 : List UInt8 := dkwX5_statement_1 ++ dktX5_statement_2
def dkwX5_statement_0 : List UInt8 := [42, 18, 165, 182, 0, 167, 153, 0, 44, 42, 3, 16, 11, 182, 0, 171, 60, 27, 2, 160, 0, 7, 2]
abbrev dktX5_statement_0 : List UInt8 := dkwX5_statement_0 ++ dktX5_statement_1
theorem dksX5_statement_0 : cX5_statement.data.toList.drop 0 = dktX5_statement_0 := by decide +kernel
theorem dksX5_statement_1 : cX5_statement.data.toList.drop 23 = dktX5_statement_1 := dk_seg dksX5_statement_0 23 rfl rfl
theorem dksX5_statement_2 : cX5_statement.data.toList.drop 47 = dktX5_statement_2 := dk_seg dksX5_statement_1 24 rfl rfl
theorem dksX5_statement_3 : cX5_statement.data.toList.drop 69 = dktX5_statement_3 := dk_seg dksX5_statement_2 22 rfl rfl
theorem dksX5_statement_4 : cX5_statement.data.toList.drop 93 = dktX5_statement_4 := dk_seg dksX5_statement_3 24 rfl rfl
theorem dksX5_statement_5 : cX5_statement.data.toList.drop 116 = dktX5_statement_5 := dk_seg dksX5_statement_4 23 rfl rfl
theorem dksX5_statement_6 : cX5_statement.data.toList.drop 140 = dktX5_statement_6 := dk_seg dksX5_statement_5 24 rfl rfl
theorem dksX5_statement_7 : cX5_statement.data.toList.drop 164 = dktX5_statement_7 := dk_seg dksX5_statement_6 24 rfl rfl
theorem dksX5_statement_8 : cX5_statement.data.toList.drop 188 = dktX5_statement_8 := dk_seg dksX5_statement_7 24 rfl rfl
theorem dksX5_statement_9 : cX5_statement.data.toList.drop 212 = dktX5_statement_9 := dk_seg dksX5_statement_8 24 rfl rfl
theorem dksX5_statement_10 : cX5_statement.data.toList.drop 234 = dktX5_statement_10 := dk_seg dksX5_statement_9 22 rfl rfl
theorem dksX5_statement_11 : cX5_statement.data.toList.drop 256 = dktX5_statement_11 := dk_seg dksX5_statement_10 22 rfl rfl
theorem dksX5_statement_12 : cX5_statement.data.toList.drop 280 = dktX5_statement_12 := dk_seg dksX5_statement_11 24 rfl rfl
theorem dX5_statement_0 : decode cX5_statement 0 = .ok (.aload_n 0, 1) := dk_42 (dk_at dksX5_statement_0 0 rfl rfl)
theorem dX5_statement_1 : decode cX5_statement 1 = .ok (.ldc 165, 2) := dk_18 165 (dk_at dksX5_statement_0 1 rfl rfl)
theorem dX5_statement_3 : decode cX5_statement 3 = .ok (.invokevirtual 167, 3) := dk_182 0 167 (dk_at dksX5_statement_0 3 rfl rfl)
theorem dX5_statement_6 : decode cX5_statement 6 = .ok (.ifCond .eq 44, 3) := dk_153 0 44 (dk_at dksX5_statement_0 6 rfl rfl)
theorem dX5_statement_9 : decode cX5_statement 9 = .ok (.aload_n 0, 1) := dk_42 (dk_at dksX5_statement_0 9 rfl rfl)
theorem dX5_statement_10 : decode cX5_statement 10 = .ok (.iconst 0, 1) := dk_3 (dk_at dksX5_statement_0 10 rfl rfl)
theorem dX5_statement_11 : decode cX5_statement 11 = .ok (.bipush 11, 2) := dk_16 11 (dk_at dksX5_statement_0 11 rfl rfl)
theorem dX5_statement_13 : decode cX5_statement 13 = .ok (.invokevirtual 171, 3) := dk_182 0 171 (dk_at dksX5_statement_0 13 rfl rfl)
theorem dX5_statement_16 : decode cX5_statement 16 = .ok (.istore_n 1, 1) := dk_60 (dk_at dksX5_statement_0 16 rfl rfl)
theorem dX5_statement_17 : decode cX5_statement 17 = .ok (.iload_n 1, 1) := dk_27 (dk_at dksX5_statement_0 17 rfl rfl)
theorem dX5_statement_18 : decode cX5_statement 18 = .ok (.iconst (-1), 1) := dk_2 (dk_at dksX5_statement_0 18 rfl rfl)
theorem dX5_statement_19 : decode cX5_statement 19 = .ok (.if_icmp .ne 7, 3) := dk_160 0 7 (dk_at dksX5_statement_0 19 rfl rfl)
theorem dX5_statement_22 : decode cX5_statement 22 = .ok (.iconst (-1), 1) := dk_2 (dk_at dksX5_statement_0 22 rfl rfl)
theorem dX5_statement_23 : decode cX5_statement 23 = .ok (.goto 10, 3) := dk_167 0 10 (dk_at dksX5_statement_1 0 rfl rfl)
theorem dX5_statement_26 : decode cX5_statement 26 = .ok (.aload_n 0, 1) := dk_42 (dk_at dksX5_statement_1 3 rfl rfl)
theorem dX5_statement_27 : decode cX5_statement 27 = .ok (.iconst 0, 1) := dk_3 (dk_at dksX5_statement_1 4 rfl rfl)
theorem dX5_statement_28 : decode cX5_statement 28 = .ok (.bipush 7, 2) := dk_16 7 (dk_at dksX5_statement_1 5 rfl rfl)
theorem dX5_statement_30 : decode cX5_statement 30 = .ok (.invokevirtual 171, 3) := dk_182 0 171 (dk_at dksX5_statement_1 7 rfl rfl)
theorem dX5_statement_33 : decode cX5_statement 33 = .ok (.istore_n 2, 1) := dk_61 (dk_at dksX5_statement_1 10 rfl rfl)
theorem dX5_statement_34 : decode cX5_statement 34 = .ok (.iload_n 2, 1) := dk_28 (dk_at dksX5_statement_1 11 rfl rfl)
theorem dX5_statement_35 : decode cX5_statement 35 = .ok (.iconst (-1), 1) := dk_2 (dk_at dksX5_statement_1 12 rfl rfl)
theorem dX5_statement_36 : decode cX5_statement 36 = .ok (.if_icmp .ne 5, 3) := dk_160 0 5 (dk_at dksX5_statement_1 13 rfl rfl)
theorem dX5_statement_39 : decode cX5_statement 39 = .ok (.iconst 0, 1) := dk_3 (dk_at dksX5_statement_1 16 rfl rfl)
theorem dX5_statement_40 : decode cX5_statement 40 = .ok (.ireturn, 1) := dk_172 (dk_at dksX5_statement_1 17 rfl rfl)
theorem dX5_statement_41 : decode cX5_statement 41 = .ok (.aload_n 0, 1) := dk_42 (dk_at dksX5_statement_1 18 rfl rfl)
theorem dX5_statement_42 : decode cX5_statement 42 = .ok (.getfield 9, 3) := dk_180 0 9 (dk_at dksX5_statement_1 19 rfl rfl)
theorem dX5_statement_45 : decode cX5_statement 45 = .ok (.iload_n 1, 1) := dk_27 (dk_at dksX5_statement_1 22 rfl rfl)
theorem dX5_statement_46 : decode cX5_statement 46 = .ok (.iload_n 2, 1) := dk_28 (dk_at dksX5_statement_1 23 rfl rfl)
theorem dX5_statement_47 : decode cX5_statement 47 = .ok (.iastore, 1) := dk_79 (dk_at dksX5_statement_2 0 rfl rfl)
theorem dX5_statement_48 : decode cX5_statement 48 = .ok (.iconst 1, 1) := dk_4 (dk_at dksX5_statement_2 1 rfl rfl)
theorem dX5_statement_49 : decode cX5_statement 49 = .ok (.ireturn, 1) := dk_172 (dk_at dksX5_statement_2 2 rfl rfl)
theorem dX5_statement_50 : decode cX5_statement 50 = .ok (.aload_n 0, 1) := dk_42 (dk_at dksX5_statement_2 3 rfl rfl)
theorem dX5_statement_51 : decode cX5_statement 51 = .ok (.ldc 175, 2) := dk_18 175 (dk_at dksX5_statement_2 4 rfl rfl)
theorem dX5_statement_53 : decode cX5_statement 53 = .ok (.invokevirtual 167, 3) := dk_182 0 167 (dk_at dksX5_statement_2 6 rfl rfl)
theorem dX5_statement_56 : decode cX5_statement 56 = .ok (.ifCond .eq 27, 3) := dk_153 0 27 (dk_at dksX5_statement_2 9 rfl rfl)
theorem dX5_statement_59 : decode cX5_statement 59 = .ok (.aload_n 0, 1) := dk_42 (dk_at dksX5_statement_2 12 rfl rfl)
theorem dX5_statement_60 : decode cX5_statement 60 = .ok (.iconst 0, 1) := dk_3 (dk_at dksX5_statement_2 13 rfl rfl)
theorem dX5_statement_61 : decode cX5_statement 61 = .ok (.bipush 11, 2) := dk_16 11 (dk_at dksX5_statement_2 14 rfl rfl)
theorem dX5_statement_63 : decode cX5_statement 63 = .ok (.invokevirtual 171, 3) := dk_182 0 171 (dk_at dksX5_statement_2 16 rfl rfl)
theorem dX5_statement_66 : decode cX5_statement 66 = .ok (.istore_n 1, 1) := dk_60 (dk_at dksX5_statement_2 19 rfl rfl)
theorem dX5_statement_67 : decode cX5_statement 67 = .ok (.iload_n 1, 1) := dk_27 (dk_at dksX5_statement_2 20 rfl rfl)
theorem dX5_statement_68 : decode cX5_statement 68 = .ok (.iconst (-1), 1) := dk_2 (dk_at dksX5_statement_2 21 rfl rfl)
theorem dX5_statement_69 : decode cX5_statement 69 = .ok (.if_icmp .ne 5, 3) := dk_160 0 5 (dk_at dksX5_statement_3 0 rfl rfl)
theorem dX5_statement_72 : decode cX5_statement 72 = .ok (.iconst 0, 1) := dk_3 (dk_at dksX5_statement_3 3 rfl rfl)
theorem dX5_statement_73 : decode cX5_statement 73 = .ok (.ireturn, 1) := dk_172 (dk_at dksX5_statement_3 4 rfl rfl)
theorem dX5_statement_74 : decode cX5_statement 74 = .ok (.aload_n 0, 1) := dk_42 (dk_at dksX5_statement_3 5 rfl rfl)
theorem dX5_statement_75 : decode cX5_statement 75 = .ok (.getfield 9, 3) := dk_180 0 9 (dk_at dksX5_statement_3 6 rfl rfl)
theorem dX5_statement_78 : decode cX5_statement 78 = .ok (.iload_n 1, 1) := dk_27 (dk_at dksX5_statement_3 9 rfl rfl)
theorem dX5_statement_79 : decode cX5_statement 79 = .ok (.iconst (-1), 1) := dk_2 (dk_at dksX5_statement_3 10 rfl rfl)
theorem dX5_statement_80 : decode cX5_statement 80 = .ok (.iastore, 1) := dk_79 (dk_at dksX5_statement_3 11 rfl rfl)
theorem dX5_statement_81 : decode cX5_statement 81 = .ok (.iconst 1, 1) := dk_4 (dk_at dksX5_statement_3 12 rfl rfl)
theorem dX5_statement_82 : decode cX5_statement 82 = .ok (.ireturn, 1) := dk_172 (dk_at dksX5_statement_3 13 rfl rfl)
theorem dX5_statement_83 : decode cX5_statement 83 = .ok (.aload_n 0, 1) := dk_42 (dk_at dksX5_statement_3 14 rfl rfl)
theorem dX5_statement_84 : decode cX5_statement 84 = .ok (.ldc 177, 2) := dk_18 177 (dk_at dksX5_statement_3 15 rfl rfl)
theorem dX5_statement_86 : decode cX5_statement 86 = .ok (.invokevirtual 167, 3) := dk_182 0 167 (dk_at dksX5_statement_3 17 rfl rfl)
theorem dX5_statement_89 : decode cX5_statement 89 = .ok (.ifCond .eq 72, 3) := dk_153 0 72 (dk_at dksX5_statement_3 20 rfl rfl)
theorem dX5_statement_92 : decode cX5_statement 92 = .ok (.aload_n 0, 1) := dk_42 (dk_at dksX5_statement_3 23 rfl rfl)
theorem dX5_statement_93 : decode cX5_statement 93 = .ok (.getfield 89, 3) := dk_180 0 89 (dk_at dksX5_statement_4 0 rfl rfl)
theorem dX5_statement_96 : decode cX5_statement 96 = .ok (.bipush 8, 2) := dk_16 8 (dk_at dksX5_statement_4 3 rfl rfl)
theorem dX5_statement_98 : decode cX5_statement 98 = .ok (.if_icmp .ne 5, 3) := dk_160 0 5 (dk_at dksX5_statement_4 5 rfl rfl)
theorem dX5_statement_101 : decode cX5_statement 101 = .ok (.iconst 0, 1) := dk_3 (dk_at dksX5_statement_4 8 rfl rfl)
theorem dX5_statement_102 : decode cX5_statement 102 = .ok (.ireturn, 1) := dk_172 (dk_at dksX5_statement_4 9 rfl rfl)
theorem dX5_statement_103 : decode cX5_statement 103 = .ok (.aload_n 0, 1) := dk_42 (dk_at dksX5_statement_4 10 rfl rfl)
theorem dX5_statement_104 : decode cX5_statement 104 = .ok (.iconst 0, 1) := dk_3 (dk_at dksX5_statement_4 11 rfl rfl)
theorem dX5_statement_105 : decode cX5_statement 105 = .ok (.iconst 5, 1) := dk_8 (dk_at dksX5_statement_4 12 rfl rfl)
theorem dX5_statement_106 : decode cX5_statement 106 = .ok (.invokevirtual 171, 3) := dk_182 0 171 (dk_at dksX5_statement_4 13 rfl rfl)
theorem dX5_statement_109 : decode cX5_statement 109 = .ok (.istore_n 1, 1) := dk_60 (dk_at dksX5_statement_4 16 rfl rfl)
theorem dX5_statement_110 : decode cX5_statement 110 = .ok (.iload_n 1, 1) := dk_27 (dk_at dksX5_statement_4 17 rfl rfl)
theorem dX5_statement_111 : decode cX5_statement 111 = .ok (.iconst (-1), 1) := dk_2 (dk_at dksX5_statement_4 18 rfl rfl)
theorem dX5_statement_112 : decode cX5_statement 112 = .ok (.if_icmp .ne 7, 3) := dk_160 0 7 (dk_at dksX5_statement_4 19 rfl rfl)
theorem dX5_statement_115 : decode cX5_statement 115 = .ok (.iconst (-1), 1) := dk_2 (dk_at dksX5_statement_4 22 rfl rfl)
theorem dX5_statement_116 : decode cX5_statement 116 = .ok (.goto 10, 3) := dk_167 0 10 (dk_at dksX5_statement_5 0 rfl rfl)
theorem dX5_statement_119 : decode cX5_statement 119 = .ok (.aload_n 0, 1) := dk_42 (dk_at dksX5_statement_5 3 rfl rfl)
theorem dX5_statement_120 : decode cX5_statement 120 = .ok (.iconst 0, 1) := dk_3 (dk_at dksX5_statement_5 4 rfl rfl)
theorem dX5_statement_121 : decode cX5_statement 121 = .ok (.bipush 7, 2) := dk_16 7 (dk_at dksX5_statement_5 5 rfl rfl)
theorem dX5_statement_123 : decode cX5_statement 123 = .ok (.invokevirtual 171, 3) := dk_182 0 171 (dk_at dksX5_statement_5 7 rfl rfl)
theorem dX5_statement_126 : decode cX5_statement 126 = .ok (.istore_n 2, 1) := dk_61 (dk_at dksX5_statement_5 10 rfl rfl)
theorem dX5_statement_127 : decode cX5_statement 127 = .ok (.iload_n 2, 1) := dk_28 (dk_at dksX5_statement_5 11 rfl rfl)
theorem dX5_statement_128 : decode cX5_statement 128 = .ok (.iconst (-1), 1) := dk_2 (dk_at dksX5_statement_5 12 rfl rfl)
theorem dX5_statement_129 : decode cX5_statement 129 = .ok (.if_icmp .ne 7, 3) := dk_160 0 7 (dk_at dksX5_statement_5 13 rfl rfl)
theorem dX5_statement_132 : decode cX5_statement 132 = .ok (.iconst (-1), 1) := dk_2 (dk_at dksX5_statement_5 16 rfl rfl)
theorem dX5_statement_133 : decode cX5_statement 133 = .ok (.goto 10, 3) := dk_167 0 10 (dk_at dksX5_statement_5 17 rfl rfl)
theorem dX5_statement_136 : decode cX5_statement 136 = .ok (.aload_n 0, 1) := dk_42 (dk_at dksX5_statement_5 20 rfl rfl)
theorem dX5_statement_137 : decode cX5_statement 137 = .ok (.iconst 0, 1) := dk_3 (dk_at dksX5_statement_5 21 rfl rfl)
theorem dX5_statement_138 : decode cX5_statement 138 = .ok (.bipush 99, 2) := dk_16 99 (dk_at dksX5_statement_5 22 rfl rfl)
theorem dX5_statement_140 : decode cX5_statement 140 = .ok (.invokevirtual 171, 3) := dk_182 0 171 (dk_at dksX5_statement_6 0 rfl rfl)
theorem dX5_statement_143 : decode cX5_statement 143 = .ok (.istore_n 3, 1) := dk_62 (dk_at dksX5_statement_6 3 rfl rfl)
theorem dX5_statement_144 : decode cX5_statement 144 = .ok (.iload_n 3, 1) := dk_29 (dk_at dksX5_statement_6 4 rfl rfl)
theorem dX5_statement_145 : decode cX5_statement 145 = .ok (.iconst (-1), 1) := dk_2 (dk_at dksX5_statement_6 5 rfl rfl)
theorem dX5_statement_146 : decode cX5_statement 146 = .ok (.if_icmp .ne 5, 3) := dk_160 0 5 (dk_at dksX5_statement_6 6 rfl rfl)
theorem dX5_statement_149 : decode cX5_statement 149 = .ok (.iconst 0, 1) := dk_3 (dk_at dksX5_statement_6 9 rfl rfl)
theorem dX5_statement_150 : decode cX5_statement 150 = .ok (.ireturn, 1) := dk_172 (dk_at dksX5_statement_6 10 rfl rfl)
theorem dX5_statement_151 : decode cX5_statement 151 = .ok (.aload_n 0, 1) := dk_42 (dk_at dksX5_statement_6 11 rfl rfl)
theorem dX5_statement_152 : decode cX5_statement 152 = .ok (.iload_n 1, 1) := dk_27 (dk_at dksX5_statement_6 12 rfl rfl)
theorem dX5_statement_153 : decode cX5_statement 153 = .ok (.iload_n 2, 1) := dk_28 (dk_at dksX5_statement_6 13 rfl rfl)
theorem dX5_statement_154 : decode cX5_statement 154 = .ok (.iload_n 3, 1) := dk_29 (dk_at dksX5_statement_6 14 rfl rfl)
theorem dX5_statement_155 : decode cX5_statement 155 = .ok (.invokevirtual 127, 3) := dk_182 0 127 (dk_at dksX5_statement_6 15 rfl rfl)
theorem dX5_statement_158 : decode cX5_statement 158 = .ok (.pop, 1) := dk_87 (dk_at dksX5_statement_6 18 rfl rfl)
theorem dX5_statement_159 : decode cX5_statement 159 = .ok (.iconst 1, 1) := dk_4 (dk_at dksX5_statement_6 19 rfl rfl)
theorem dX5_statement_160 : decode cX5_statement 160 = .ok (.ireturn, 1) := dk_172 (dk_at dksX5_statement_6 20 rfl rfl)
theorem dX5_statement_161 : decode cX5_statement 161 = .ok (.aload_n 0, 1) := dk_42 (dk_at dksX5_statement_6 21 rfl rfl)
theorem dX5_statement_162 : decode cX5_statement 162 = .ok (.ldc 179, 2) := dk_18 179 (dk_at dksX5_statement_6 22 rfl rfl)
theorem dX5_statement_164 : decode cX5_statement 164 = .ok (.invokevirtual 167, 3) := dk_182 0 167 (dk_at dksX5_statement_7 0 rfl rfl)
theorem dX5_statement_167 : decode cX5_statement 167 = .ok (.ifCond .eq 7, 3) := dk_153 0 7 (dk_at dksX5_statement_7 3 rfl rfl)
theorem dX5_statement_170 : decode cX5_statement 170 = .ok (.iconst 0, 1) := dk_3 (dk_at dksX5_statement_7 6 rfl rfl)
theorem dX5_statement_171 : decode cX5_statement 171 = .ok (.goto 30, 3) := dk_167 0 30 (dk_at dksX5_statement_7 7 rfl rfl)
theorem dX5_statement_174 : decode cX5_statement 174 = .ok (.aload_n 0, 1) := dk_42 (dk_at dksX5_statement_7 10 rfl rfl)
theorem dX5_statement_175 : decode cX5_statement 175 = .ok (.ldc 181, 2) := dk_18 181 (dk_at dksX5_statement_7 11 rfl rfl)
theorem dX5_statement_177 : decode cX5_statement 177 = .ok (.invokevirtual 167, 3) := dk_182 0 167 (dk_at dksX5_statement_7 13 rfl rfl)
theorem dX5_statement_180 : decode cX5_statement 180 = .ok (.ifCond .eq 7, 3) := dk_153 0 7 (dk_at dksX5_statement_7 16 rfl rfl)
theorem dX5_statement_183 : decode cX5_statement 183 = .ok (.iconst 1, 1) := dk_4 (dk_at dksX5_statement_7 19 rfl rfl)
theorem dX5_statement_184 : decode cX5_statement 184 = .ok (.goto 17, 3) := dk_167 0 17 (dk_at dksX5_statement_7 20 rfl rfl)
theorem dX5_statement_187 : decode cX5_statement 187 = .ok (.aload_n 0, 1) := dk_42 (dk_at dksX5_statement_7 23 rfl rfl)
theorem dX5_statement_188 : decode cX5_statement 188 = .ok (.ldc 182, 2) := dk_18 182 (dk_at dksX5_statement_8 0 rfl rfl)
theorem dX5_statement_190 : decode cX5_statement 190 = .ok (.invokevirtual 167, 3) := dk_182 0 167 (dk_at dksX5_statement_8 2 rfl rfl)
theorem dX5_statement_193 : decode cX5_statement 193 = .ok (.ifCond .eq 7, 3) := dk_153 0 7 (dk_at dksX5_statement_8 5 rfl rfl)
theorem dX5_statement_196 : decode cX5_statement 196 = .ok (.iconst 2, 1) := dk_5 (dk_at dksX5_statement_8 8 rfl rfl)
theorem dX5_statement_197 : decode cX5_statement 197 = .ok (.goto 4, 3) := dk_167 0 4 (dk_at dksX5_statement_8 9 rfl rfl)
theorem dX5_statement_200 : decode cX5_statement 200 = .ok (.iconst (-1), 1) := dk_2 (dk_at dksX5_statement_8 12 rfl rfl)
theorem dX5_statement_201 : decode cX5_statement 201 = .ok (.istore_n 3, 1) := dk_62 (dk_at dksX5_statement_8 13 rfl rfl)
theorem dX5_statement_202 : decode cX5_statement 202 = .ok (.iload_n 3, 1) := dk_29 (dk_at dksX5_statement_8 14 rfl rfl)
theorem dX5_statement_203 : decode cX5_statement 203 = .ok (.iconst (-1), 1) := dk_2 (dk_at dksX5_statement_8 15 rfl rfl)
theorem dX5_statement_204 : decode cX5_statement 204 = .ok (.if_icmp .ne 5, 3) := dk_160 0 5 (dk_at dksX5_statement_8 16 rfl rfl)
theorem dX5_statement_207 : decode cX5_statement 207 = .ok (.iconst 0, 1) := dk_3 (dk_at dksX5_statement_8 19 rfl rfl)
theorem dX5_statement_208 : decode cX5_statement 208 = .ok (.ireturn, 1) := dk_172 (dk_at dksX5_statement_8 20 rfl rfl)
theorem dX5_statement_209 : decode cX5_statement 209 = .ok (.aload_n 0, 1) := dk_42 (dk_at dksX5_statement_8 21 rfl rfl)
theorem dX5_statement_210 : decode cX5_statement 210 = .ok (.iconst 0, 1) := dk_3 (dk_at dksX5_statement_8 22 rfl rfl)
theorem dX5_statement_211 : decode cX5_statement 211 = .ok (.aload_n 0, 1) := dk_42 (dk_at dksX5_statement_8 23 rfl rfl)
theorem dX5_statement_212 : decode cX5_statement 212 = .ok (.getfield 89, 3) := dk_180 0 89 (dk_at dksX5_statement_9 0 rfl rfl)
theorem dX5_statement_215 : decode cX5_statement 215 = .ok (.iconst 1, 1) := dk_4 (dk_at dksX5_statement_9 3 rfl rfl)
theorem dX5_statement_216 : decode cX5_statement 216 = .ok (.isub, 1) := dk_100 (dk_at dksX5_statement_9 4 rfl rfl)
theorem dX5_statement_217 : decode cX5_statement 217 = .ok (.invokevirtual 171, 3) := dk_182 0 171 (dk_at dksX5_statement_9 5 rfl rfl)
theorem dX5_statement_220 : decode cX5_statement 220 = .ok (.istore_n 1, 1) := dk_60 (dk_at dksX5_statement_9 8 rfl rfl)
theorem dX5_statement_221 : decode cX5_statement 221 = .ok (.iload_n 1, 1) := dk_27 (dk_at dksX5_statement_9 9 rfl rfl)
theorem dX5_statement_222 : decode cX5_statement 222 = .ok (.iconst (-1), 1) := dk_2 (dk_at dksX5_statement_9 10 rfl rfl)
theorem dX5_statement_223 : decode cX5_statement 223 = .ok (.if_icmp .ne 7, 3) := dk_160 0 7 (dk_at dksX5_statement_9 11 rfl rfl)
theorem dX5_statement_226 : decode cX5_statement 226 = .ok (.iconst (-1), 1) := dk_2 (dk_at dksX5_statement_9 14 rfl rfl)
theorem dX5_statement_227 : decode cX5_statement 227 = .ok (.goto 20, 3) := dk_167 0 20 (dk_at dksX5_statement_9 15 rfl rfl)
theorem dX5_statement_230 : decode cX5_statement 230 = .ok (.aload_n 0, 1) := dk_42 (dk_at dksX5_statement_9 18 rfl rfl)
theorem dX5_statement_231 : decode cX5_statement 231 = .ok (.iconst 0, 1) := dk_3 (dk_at dksX5_statement_9 19 rfl rfl)
theorem dX5_statement_232 : decode cX5_statement 232 = .ok (.iload_n 3, 1) := dk_29 (dk_at dksX5_statement_9 20 rfl rfl)
theorem dX5_statement_233 : decode cX5_statement 233 = .ok (.iconst 1, 1) := dk_4 (dk_at dksX5_statement_9 21 rfl rfl)
theorem dX5_statement_234 : decode cX5_statement 234 = .ok (.if_icmp .ne 8, 3) := dk_160 0 8 (dk_at dksX5_statement_10 0 rfl rfl)
theorem dX5_statement_237 : decode cX5_statement 237 = .ok (.bipush 12, 2) := dk_16 12 (dk_at dksX5_statement_10 3 rfl rfl)
theorem dX5_statement_239 : decode cX5_statement 239 = .ok (.goto 5, 3) := dk_167 0 5 (dk_at dksX5_statement_10 5 rfl rfl)
theorem dX5_statement_242 : decode cX5_statement 242 = .ok (.bipush 7, 2) := dk_16 7 (dk_at dksX5_statement_10 8 rfl rfl)
theorem dX5_statement_244 : decode cX5_statement 244 = .ok (.invokevirtual 171, 3) := dk_182 0 171 (dk_at dksX5_statement_10 10 rfl rfl)
theorem dX5_statement_247 : decode cX5_statement 247 = .ok (.istore_n 2, 1) := dk_61 (dk_at dksX5_statement_10 13 rfl rfl)
theorem dX5_statement_248 : decode cX5_statement 248 = .ok (.iload_n 2, 1) := dk_28 (dk_at dksX5_statement_10 14 rfl rfl)
theorem dX5_statement_249 : decode cX5_statement 249 = .ok (.iconst (-1), 1) := dk_2 (dk_at dksX5_statement_10 15 rfl rfl)
theorem dX5_statement_250 : decode cX5_statement 250 = .ok (.if_icmp .ne 5, 3) := dk_160 0 5 (dk_at dksX5_statement_10 16 rfl rfl)
theorem dX5_statement_253 : decode cX5_statement 253 = .ok (.iconst 0, 1) := dk_3 (dk_at dksX5_statement_10 19 rfl rfl)
theorem dX5_statement_254 : decode cX5_statement 254 = .ok (.ireturn, 1) := dk_172 (dk_at dksX5_statement_10 20 rfl rfl)
theorem dX5_statement_255 : decode cX5_statement 255 = .ok (.iload_n 3, 1) := dk_29 (dk_at dksX5_statement_10 21 rfl rfl)
theorem dX5_statement_256 : decode cX5_statement 256 = .ok (.ifCond .ne 18, 3) := dk_154 0 18 (dk_at dksX5_statement_11 0 rfl rfl)
theorem dX5_statement_259 : decode cX5_statement 259 = .ok (.aload_n 0, 1) := dk_42 (dk_at dksX5_statement_11 3 rfl rfl)
theorem dX5_statement_260 : decode cX5_statement 260 = .ok (.getfield 22, 3) := dk_180 0 22 (dk_at dksX5_statement_11 4 rfl rfl)
theorem dX5_statement_263 : decode cX5_statement 263 = .ok (.iload_n 1, 1) := dk_27 (dk_at dksX5_statement_11 7 rfl rfl)
theorem dX5_statement_264 : decode cX5_statement 264 = .ok (.dup2, 1) := dk_92 (dk_at dksX5_statement_11 8 rfl rfl)
theorem dX5_statement_265 : decode cX5_statement 265 = .ok (.iaload, 1) := dk_46 (dk_at dksX5_statement_11 9 rfl rfl)
theorem dX5_statement_266 : decode cX5_statement 266 = .ok (.iconst 1, 1) := dk_4 (dk_at dksX5_statement_11 10 rfl rfl)
theorem dX5_statement_267 : decode cX5_statement 267 = .ok (.iload_n 2, 1) := dk_28 (dk_at dksX5_statement_11 11 rfl rfl)
theorem dX5_statement_268 : decode cX5_statement 268 = .ok (.ishl, 1) := dk_120 (dk_at dksX5_statement_11 12 rfl rfl)
theorem dX5_statement_269 : decode cX5_statement 269 = .ok (.ior, 1) := dk_128 (dk_at dksX5_statement_11 13 rfl rfl)
theorem dX5_statement_270 : decode cX5_statement 270 = .ok (.iastore, 1) := dk_79 (dk_at dksX5_statement_11 14 rfl rfl)
theorem dX5_statement_271 : decode cX5_statement 271 = .ok (.goto 25, 3) := dk_167 0 25 (dk_at dksX5_statement_11 15 rfl rfl)
theorem dX5_statement_274 : decode cX5_statement 274 = .ok (.iload_n 3, 1) := dk_29 (dk_at dksX5_statement_11 18 rfl rfl)
theorem dX5_statement_275 : decode cX5_statement 275 = .ok (.iconst 1, 1) := dk_4 (dk_at dksX5_statement_11 19 rfl rfl)
theorem dX5_statement_276 : decode cX5_statement 276 = .ok (.if_icmp .ne 13, 3) := dk_160 0 13 (dk_at dksX5_statement_11 20 rfl rfl)
theorem dX5_statement_279 : decode cX5_statement 279 = .ok (.aload_n 0, 1) := dk_42 (dk_at dksX5_statement_11 23 rfl rfl)
theorem dX5_statement_280 : decode cX5_statement 280 = .ok (.getfield 25, 3) := dk_180 0 25 (dk_at dksX5_statement_12 0 rfl rfl)
theorem dX5_statement_283 : decode cX5_statement 283 = .ok (.iload_n 1, 1) := dk_27 (dk_at dksX5_statement_12 3 rfl rfl)
theorem dX5_statement_284 : decode cX5_statement 284 = .ok (.iload_n 2, 1) := dk_28 (dk_at dksX5_statement_12 4 rfl rfl)
theorem dX5_statement_285 : decode cX5_statement 285 = .ok (.iastore, 1) := dk_79 (dk_at dksX5_statement_12 5 rfl rfl)
theorem dX5_statement_286 : decode cX5_statement 286 = .ok (.goto 10, 3) := dk_167 0 10 (dk_at dksX5_statement_12 6 rfl rfl)
theorem dX5_statement_289 : decode cX5_statement 289 = .ok (.aload_n 0, 1) := dk_42 (dk_at dksX5_statement_12 9 rfl rfl)
theorem dX5_statement_290 : decode cX5_statement 290 = .ok (.getfield 28, 3) := dk_180 0 28 (dk_at dksX5_statement_12 10 rfl rfl)
theorem dX5_statement_293 : decode cX5_statement 293 = .ok (.iload_n 1, 1) := dk_27 (dk_at dksX5_statement_12 13 rfl rfl)
theorem dX5_statement_294 : decode cX5_statement 294 = .ok (.iload_n 2, 1) := dk_28 (dk_at dksX5_statement_12 14 rfl rfl)
theorem dX5_statement_295 : decode cX5_statement 295 = .ok (.iastore, 1) := dk_79 (dk_at dksX5_statement_12 15 rfl rfl)
theorem dX5_statement_296 : decode cX5_statement 296 = .ok (.iconst 1, 1) := dk_4 (dk_at dksX5_statement_12 16 rfl rfl)
theorem dX5_statement_297 : decode cX5_statement 297 = .ok (.ireturn, 1) := dk_172 (dk_at dksX5_statement_12 17 rfl rfl)
abbrev cX5_isWord : ByteArray := prog_17_method_32_code
def yX5_isWord : MethodName := ⟨RX5, "isWord", "(Ljava/lang/String;)Z"⟩
def dkwX5_isWord_2 : List UInt8 := [96, 46, 43, 28, 182, 0, 158, 159, 0, 5, 3, 172, 132, 2, 1, 167, 255, 224, 4, 172]
abbrev dktX5_isWord_2 : List UInt8 := dkwX5_isWord_2 ++ []
def dkwX5_isWord_1 : List UInt8 := [159, 0, 5, 3, 172, 3, 61, 28, 43, 182, 0, 152, 162, 0, 30, 42, 180, 0, 34, 42, 180, 0, 137, 28]
abbrev dktX5_isWord_1 : List UInt8 := dkwX5_isWord_1 ++ dktX5_isWord_2
def dkwX5_isWord_0 : List UInt8 := [42, 180, 0, 140, 16, 119, 160, 0, 19, 42, 180, 0, 134, 42, 180, 0, 137, 100, 43, 182, 0, 152]
abbrev dktX5_isWord_0 : List UInt8 := dkwX5_isWord_0 ++ dktX5_isWord_1
theorem dksX5_isWord_0 : cX5_isWord.data.toList.drop 0 = dktX5_isWord_0 := by decide +kernel
theorem dksX5_isWord_1 : cX5_isWord.data.toList.drop 22 = dktX5_isWord_1 := dk_seg dksX5_isWord_0 22 rfl rfl
theorem dksX5_isWord_2 : cX5_isWord.data.toList.drop 46 = dktX5_isWord_2 := dk_seg dksX5_isWord_1 24 rfl rfl
theorem dX5_isWord_0 : decode cX5_isWord 0 = .ok (.aload_n 0, 1) := dk_42 (dk_at dksX5_isWord_0 0 rfl rfl)
theorem dX5_isWord_1 : decode cX5_isWord 1 = .ok (.getfield 140, 3) := dk_180 0 140 (dk_at dksX5_isWord_0 1 rfl rfl)
theorem dX5_isWord_4 : decode cX5_isWord 4 = .ok (.bipush 119, 2) := dk_16 119 (dk_at dksX5_isWord_0 4 rfl rfl)
theorem dX5_isWord_6 : decode cX5_isWord 6 = .ok (.if_icmp .ne 19, 3) := dk_160 0 19 (dk_at dksX5_isWord_0 6 rfl rfl)
theorem dX5_isWord_9 : decode cX5_isWord 9 = .ok (.aload_n 0, 1) := dk_42 (dk_at dksX5_isWord_0 9 rfl rfl)
theorem dX5_isWord_10 : decode cX5_isWord 10 = .ok (.getfield 134, 3) := dk_180 0 134 (dk_at dksX5_isWord_0 10 rfl rfl)
theorem dX5_isWord_13 : decode cX5_isWord 13 = .ok (.aload_n 0, 1) := dk_42 (dk_at dksX5_isWord_0 13 rfl rfl)
theorem dX5_isWord_14 : decode cX5_isWord 14 = .ok (.getfield 137, 3) := dk_180 0 137 (dk_at dksX5_isWord_0 14 rfl rfl)
theorem dX5_isWord_17 : decode cX5_isWord 17 = .ok (.isub, 1) := dk_100 (dk_at dksX5_isWord_0 17 rfl rfl)
theorem dX5_isWord_18 : decode cX5_isWord 18 = .ok (.aload_n 1, 1) := dk_43 (dk_at dksX5_isWord_0 18 rfl rfl)
theorem dX5_isWord_19 : decode cX5_isWord 19 = .ok (.invokevirtual 152, 3) := dk_182 0 152 (dk_at dksX5_isWord_0 19 rfl rfl)
theorem dX5_isWord_22 : decode cX5_isWord 22 = .ok (.if_icmp .eq 5, 3) := dk_159 0 5 (dk_at dksX5_isWord_1 0 rfl rfl)
theorem dX5_isWord_25 : decode cX5_isWord 25 = .ok (.iconst 0, 1) := dk_3 (dk_at dksX5_isWord_1 3 rfl rfl)
theorem dX5_isWord_26 : decode cX5_isWord 26 = .ok (.ireturn, 1) := dk_172 (dk_at dksX5_isWord_1 4 rfl rfl)
theorem dX5_isWord_27 : decode cX5_isWord 27 = .ok (.iconst 0, 1) := dk_3 (dk_at dksX5_isWord_1 5 rfl rfl)
theorem dX5_isWord_28 : decode cX5_isWord 28 = .ok (.istore_n 2, 1) := dk_61 (dk_at dksX5_isWord_1 6 rfl rfl)
theorem dX5_isWord_29 : decode cX5_isWord 29 = .ok (.iload_n 2, 1) := dk_28 (dk_at dksX5_isWord_1 7 rfl rfl)
theorem dX5_isWord_30 : decode cX5_isWord 30 = .ok (.aload_n 1, 1) := dk_43 (dk_at dksX5_isWord_1 8 rfl rfl)
theorem dX5_isWord_31 : decode cX5_isWord 31 = .ok (.invokevirtual 152, 3) := dk_182 0 152 (dk_at dksX5_isWord_1 9 rfl rfl)
theorem dX5_isWord_34 : decode cX5_isWord 34 = .ok (.if_icmp .ge 30, 3) := dk_162 0 30 (dk_at dksX5_isWord_1 12 rfl rfl)
theorem dX5_isWord_37 : decode cX5_isWord 37 = .ok (.aload_n 0, 1) := dk_42 (dk_at dksX5_isWord_1 15 rfl rfl)
theorem dX5_isWord_38 : decode cX5_isWord 38 = .ok (.getfield 34, 3) := dk_180 0 34 (dk_at dksX5_isWord_1 16 rfl rfl)
theorem dX5_isWord_41 : decode cX5_isWord 41 = .ok (.aload_n 0, 1) := dk_42 (dk_at dksX5_isWord_1 19 rfl rfl)
theorem dX5_isWord_42 : decode cX5_isWord 42 = .ok (.getfield 137, 3) := dk_180 0 137 (dk_at dksX5_isWord_1 20 rfl rfl)
theorem dX5_isWord_45 : decode cX5_isWord 45 = .ok (.iload_n 2, 1) := dk_28 (dk_at dksX5_isWord_1 23 rfl rfl)
theorem dX5_isWord_46 : decode cX5_isWord 46 = .ok (.iadd, 1) := dk_96 (dk_at dksX5_isWord_2 0 rfl rfl)
theorem dX5_isWord_47 : decode cX5_isWord 47 = .ok (.iaload, 1) := dk_46 (dk_at dksX5_isWord_2 1 rfl rfl)
theorem dX5_isWord_48 : decode cX5_isWord 48 = .ok (.aload_n 1, 1) := dk_43 (dk_at dksX5_isWord_2 2 rfl rfl)
theorem dX5_isWord_49 : decode cX5_isWord 49 = .ok (.iload_n 2, 1) := dk_28 (dk_at dksX5_isWord_2 3 rfl rfl)
theorem dX5_isWord_50 : decode cX5_isWord 50 = .ok (.invokevirtual 158, 3) := dk_182 0 158 (dk_at dksX5_isWord_2 4 rfl rfl)
theorem dX5_isWord_53 : decode cX5_isWord 53 = .ok (.if_icmp .eq 5, 3) := dk_159 0 5 (dk_at dksX5_isWord_2 7 rfl rfl)
theorem dX5_isWord_56 : decode cX5_isWord 56 = .ok (.iconst 0, 1) := dk_3 (dk_at dksX5_isWord_2 10 rfl rfl)
theorem dX5_isWord_57 : decode cX5_isWord 57 = .ok (.ireturn, 1) := dk_172 (dk_at dksX5_isWord_2 11 rfl rfl)
theorem dX5_isWord_58 : decode cX5_isWord 58 = .ok (.iinc 2 1, 3) := dk_132 2 1 (dk_at dksX5_isWord_2 12 rfl rfl)
theorem dX5_isWord_61 : decode cX5_isWord 61 = .ok (.goto (-32), 3) := dk_167 255 224 (dk_at dksX5_isWord_2 15 rfl rfl)
theorem dX5_isWord_64 : decode cX5_isWord 64 = .ok (.iconst 1, 1) := dk_4 (dk_at dksX5_isWord_2 18 rfl rfl)
theorem dX5_isWord_65 : decode cX5_isWord 65 = .ok (.ireturn, 1) := dk_172 (dk_at dksX5_isWord_2 19 rfl rfl)
abbrev cX5_number : ByteArray := prog_17_method_33_code
def yX5_number : MethodName := ⟨RX5, "number", "(II)I"⟩
def dkwX5_number_1 : List UInt8 := [153, 0, 10, 42, 180, 0, 149, 167, 0, 4, 2, 172]
abbrev dktX5_number_1 : List UInt8 := dkwX5_number_1 ++ []
def dkwX5_number_0 : List UInt8 := [42, 182, 0, 162, 42, 180, 0, 140, 16, 48, 160, 0, 22, 42, 180, 0, 149, 27, 28, 184, 0, 85]
abbrev dktX5_number_0 : List UInt8 := dkwX5_number_0 ++ dktX5_number_1
theorem dksX5_number_0 : cX5_number.data.toList.drop 0 = dktX5_number_0 := by decide +kernel
theorem dksX5_number_1 : cX5_number.data.toList.drop 22 = dktX5_number_1 := dk_seg dksX5_number_0 22 rfl rfl
theorem dX5_number_0 : decode cX5_number 0 = .ok (.aload_n 0, 1) := dk_42 (dk_at dksX5_number_0 0 rfl rfl)
theorem dX5_number_1 : decode cX5_number 1 = .ok (.invokevirtual 162, 3) := dk_182 0 162 (dk_at dksX5_number_0 1 rfl rfl)
theorem dX5_number_4 : decode cX5_number 4 = .ok (.aload_n 0, 1) := dk_42 (dk_at dksX5_number_0 4 rfl rfl)
theorem dX5_number_5 : decode cX5_number 5 = .ok (.getfield 140, 3) := dk_180 0 140 (dk_at dksX5_number_0 5 rfl rfl)
theorem dX5_number_8 : decode cX5_number 8 = .ok (.bipush 48, 2) := dk_16 48 (dk_at dksX5_number_0 8 rfl rfl)
theorem dX5_number_10 : decode cX5_number 10 = .ok (.if_icmp .ne 22, 3) := dk_160 0 22 (dk_at dksX5_number_0 10 rfl rfl)
theorem dX5_number_13 : decode cX5_number 13 = .ok (.aload_n 0, 1) := dk_42 (dk_at dksX5_number_0 13 rfl rfl)
theorem dX5_number_14 : decode cX5_number 14 = .ok (.getfield 149, 3) := dk_180 0 149 (dk_at dksX5_number_0 14 rfl rfl)
theorem dX5_number_17 : decode cX5_number 17 = .ok (.iload_n 1, 1) := dk_27 (dk_at dksX5_number_0 17 rfl rfl)
theorem dX5_number_18 : decode cX5_number 18 = .ok (.iload_n 2, 1) := dk_28 (dk_at dksX5_number_0 18 rfl rfl)
theorem dX5_number_19 : decode cX5_number 19 = .ok (.invokestatic 85, 3) := dk_184 0 85 (dk_at dksX5_number_0 19 rfl rfl)
theorem dX5_number_22 : decode cX5_number 22 = .ok (.ifCond .eq 10, 3) := dk_153 0 10 (dk_at dksX5_number_1 0 rfl rfl)
theorem dX5_number_25 : decode cX5_number 25 = .ok (.aload_n 0, 1) := dk_42 (dk_at dksX5_number_1 3 rfl rfl)
theorem dX5_number_26 : decode cX5_number 26 = .ok (.getfield 149, 3) := dk_180 0 149 (dk_at dksX5_number_1 4 rfl rfl)
theorem dX5_number_29 : decode cX5_number 29 = .ok (.goto 4, 3) := dk_167 0 4 (dk_at dksX5_number_1 7 rfl rfl)
theorem dX5_number_32 : decode cX5_number 32 = .ok (.iconst (-1), 1) := dk_2 (dk_at dksX5_number_1 10 rfl rfl)
theorem dX5_number_33 : decode cX5_number 33 = .ok (.ireturn, 1) := dk_172 (dk_at dksX5_number_1 11 rfl rfl)
abbrev cX5_again : ByteArray := prog_17_method_100_code
def yX5_again : MethodName := ⟨RX5, "again", "([I)V"⟩
def dkwX5_again_6 : List UInt8 := [181, 0, 89, 42, 43, 16, 125, 46, 181, 1, 48, 42, 43, 16, 126, 46, 181, 0, 81, 177]
abbrev dktX5_again_6 : List UInt8 := dkwX5_again_6 ++ []
def dkwX5_again_5 : List UInt8 := [180, 0, 31, 28, 43, 16, 60, 28, 96, 46, 79, 132, 2, 1, 167, 255, 235, 42, 43, 16, 124, 46]
abbrev dktX5_again_5 : List UInt8 := dkwX5_again_5 ++ dktX5_again_6
def dkwX5_again_4 : List UInt8 := [43, 16, 52, 28, 96, 46, 79, 132, 2, 1, 167, 255, 175, 3, 61, 28, 16, 64, 162, 0, 21, 42]
abbrev dktX5_again_4 : List UInt8 := dkwX5_again_4 ++ dktX5_again_5
def dkwX5_again_3 : List UInt8 := [43, 16, 36, 28, 96, 46, 79, 42, 180, 0, 25, 28, 43, 16, 44, 28, 96, 46, 79, 42, 180, 0, 28, 28]
abbrev dktX5_again_3 : List UInt8 := dkwX5_again_3 ++ dktX5_again_4
def dkwX5_again_2 : List UInt8 := [43, 16, 20, 28, 96, 46, 79, 42, 180, 0, 19, 28, 43, 16, 28, 28, 96, 46, 79, 42, 180, 0, 22, 28]
abbrev dktX5_again_2 : List UInt8 := dkwX5_again_2 ++ dktX5_again_3
def dkwX5_again_1 : List UInt8 := [61, 28, 16, 8, 162, 0, 81, 42, 180, 0, 13, 28, 43, 16, 12, 28, 96, 46, 79, 42, 180, 0, 16, 28]
abbrev dktX5_again_1 : List UInt8 := dkwX5_again_1 ++ dktX5_again_2
def dkwX5_again_0 : List UInt8 := [3, 61, 28, 16, 12, 162, 0, 18, 42, 180, 0, 9, 28, 43, 28, 46, 79, 132, 2, 1, 167, 255, 238, 3]
abbrev dktX5_again_0 : List UInt8 := dkwX5_again_0 ++ dktX5_again_1
theorem dksX5_again_0 : cX5_again.data.toList.drop 0 = dktX5_again_0 := by decide +kernel
theorem dksX5_again_1 : cX5_again.data.toList.drop 24 = dktX5_again_1 := dk_seg dksX5_again_0 24 rfl rfl
theorem dksX5_again_2 : cX5_again.data.toList.drop 48 = dktX5_again_2 := dk_seg dksX5_again_1 24 rfl rfl
theorem dksX5_again_3 : cX5_again.data.toList.drop 72 = dktX5_again_3 := dk_seg dksX5_again_2 24 rfl rfl
theorem dksX5_again_4 : cX5_again.data.toList.drop 96 = dktX5_again_4 := dk_seg dksX5_again_3 24 rfl rfl
theorem dksX5_again_5 : cX5_again.data.toList.drop 118 = dktX5_again_5 := dk_seg dksX5_again_4 22 rfl rfl
theorem dksX5_again_6 : cX5_again.data.toList.drop 140 = dktX5_again_6 := dk_seg dksX5_again_5 22 rfl rfl
theorem dX5_again_0 : decode cX5_again 0 = .ok (.iconst 0, 1) := dk_3 (dk_at dksX5_again_0 0 rfl rfl)
theorem dX5_again_1 : decode cX5_again 1 = .ok (.istore_n 2, 1) := dk_61 (dk_at dksX5_again_0 1 rfl rfl)
theorem dX5_again_2 : decode cX5_again 2 = .ok (.iload_n 2, 1) := dk_28 (dk_at dksX5_again_0 2 rfl rfl)
theorem dX5_again_3 : decode cX5_again 3 = .ok (.bipush 12, 2) := dk_16 12 (dk_at dksX5_again_0 3 rfl rfl)
theorem dX5_again_5 : decode cX5_again 5 = .ok (.if_icmp .ge 18, 3) := dk_162 0 18 (dk_at dksX5_again_0 5 rfl rfl)
theorem dX5_again_8 : decode cX5_again 8 = .ok (.aload_n 0, 1) := dk_42 (dk_at dksX5_again_0 8 rfl rfl)
theorem dX5_again_9 : decode cX5_again 9 = .ok (.getfield 9, 3) := dk_180 0 9 (dk_at dksX5_again_0 9 rfl rfl)
theorem dX5_again_12 : decode cX5_again 12 = .ok (.iload_n 2, 1) := dk_28 (dk_at dksX5_again_0 12 rfl rfl)
theorem dX5_again_13 : decode cX5_again 13 = .ok (.aload_n 1, 1) := dk_43 (dk_at dksX5_again_0 13 rfl rfl)
theorem dX5_again_14 : decode cX5_again 14 = .ok (.iload_n 2, 1) := dk_28 (dk_at dksX5_again_0 14 rfl rfl)
theorem dX5_again_15 : decode cX5_again 15 = .ok (.iaload, 1) := dk_46 (dk_at dksX5_again_0 15 rfl rfl)
theorem dX5_again_16 : decode cX5_again 16 = .ok (.iastore, 1) := dk_79 (dk_at dksX5_again_0 16 rfl rfl)
theorem dX5_again_17 : decode cX5_again 17 = .ok (.iinc 2 1, 3) := dk_132 2 1 (dk_at dksX5_again_0 17 rfl rfl)
theorem dX5_again_20 : decode cX5_again 20 = .ok (.goto (-18), 3) := dk_167 255 238 (dk_at dksX5_again_0 20 rfl rfl)
theorem dX5_again_23 : decode cX5_again 23 = .ok (.iconst 0, 1) := dk_3 (dk_at dksX5_again_0 23 rfl rfl)
theorem dX5_again_24 : decode cX5_again 24 = .ok (.istore_n 2, 1) := dk_61 (dk_at dksX5_again_1 0 rfl rfl)
theorem dX5_again_25 : decode cX5_again 25 = .ok (.iload_n 2, 1) := dk_28 (dk_at dksX5_again_1 1 rfl rfl)
theorem dX5_again_26 : decode cX5_again 26 = .ok (.bipush 8, 2) := dk_16 8 (dk_at dksX5_again_1 2 rfl rfl)
theorem dX5_again_28 : decode cX5_again 28 = .ok (.if_icmp .ge 81, 3) := dk_162 0 81 (dk_at dksX5_again_1 4 rfl rfl)
theorem dX5_again_31 : decode cX5_again 31 = .ok (.aload_n 0, 1) := dk_42 (dk_at dksX5_again_1 7 rfl rfl)
theorem dX5_again_32 : decode cX5_again 32 = .ok (.getfield 13, 3) := dk_180 0 13 (dk_at dksX5_again_1 8 rfl rfl)
theorem dX5_again_35 : decode cX5_again 35 = .ok (.iload_n 2, 1) := dk_28 (dk_at dksX5_again_1 11 rfl rfl)
theorem dX5_again_36 : decode cX5_again 36 = .ok (.aload_n 1, 1) := dk_43 (dk_at dksX5_again_1 12 rfl rfl)
theorem dX5_again_37 : decode cX5_again 37 = .ok (.bipush 12, 2) := dk_16 12 (dk_at dksX5_again_1 13 rfl rfl)
theorem dX5_again_39 : decode cX5_again 39 = .ok (.iload_n 2, 1) := dk_28 (dk_at dksX5_again_1 15 rfl rfl)
theorem dX5_again_40 : decode cX5_again 40 = .ok (.iadd, 1) := dk_96 (dk_at dksX5_again_1 16 rfl rfl)
theorem dX5_again_41 : decode cX5_again 41 = .ok (.iaload, 1) := dk_46 (dk_at dksX5_again_1 17 rfl rfl)
theorem dX5_again_42 : decode cX5_again 42 = .ok (.iastore, 1) := dk_79 (dk_at dksX5_again_1 18 rfl rfl)
theorem dX5_again_43 : decode cX5_again 43 = .ok (.aload_n 0, 1) := dk_42 (dk_at dksX5_again_1 19 rfl rfl)
theorem dX5_again_44 : decode cX5_again 44 = .ok (.getfield 16, 3) := dk_180 0 16 (dk_at dksX5_again_1 20 rfl rfl)
theorem dX5_again_47 : decode cX5_again 47 = .ok (.iload_n 2, 1) := dk_28 (dk_at dksX5_again_1 23 rfl rfl)
theorem dX5_again_48 : decode cX5_again 48 = .ok (.aload_n 1, 1) := dk_43 (dk_at dksX5_again_2 0 rfl rfl)
theorem dX5_again_49 : decode cX5_again 49 = .ok (.bipush 20, 2) := dk_16 20 (dk_at dksX5_again_2 1 rfl rfl)
theorem dX5_again_51 : decode cX5_again 51 = .ok (.iload_n 2, 1) := dk_28 (dk_at dksX5_again_2 3 rfl rfl)
theorem dX5_again_52 : decode cX5_again 52 = .ok (.iadd, 1) := dk_96 (dk_at dksX5_again_2 4 rfl rfl)
theorem dX5_again_53 : decode cX5_again 53 = .ok (.iaload, 1) := dk_46 (dk_at dksX5_again_2 5 rfl rfl)
theorem dX5_again_54 : decode cX5_again 54 = .ok (.iastore, 1) := dk_79 (dk_at dksX5_again_2 6 rfl rfl)
theorem dX5_again_55 : decode cX5_again 55 = .ok (.aload_n 0, 1) := dk_42 (dk_at dksX5_again_2 7 rfl rfl)
theorem dX5_again_56 : decode cX5_again 56 = .ok (.getfield 19, 3) := dk_180 0 19 (dk_at dksX5_again_2 8 rfl rfl)
theorem dX5_again_59 : decode cX5_again 59 = .ok (.iload_n 2, 1) := dk_28 (dk_at dksX5_again_2 11 rfl rfl)
theorem dX5_again_60 : decode cX5_again 60 = .ok (.aload_n 1, 1) := dk_43 (dk_at dksX5_again_2 12 rfl rfl)
theorem dX5_again_61 : decode cX5_again 61 = .ok (.bipush 28, 2) := dk_16 28 (dk_at dksX5_again_2 13 rfl rfl)
theorem dX5_again_63 : decode cX5_again 63 = .ok (.iload_n 2, 1) := dk_28 (dk_at dksX5_again_2 15 rfl rfl)
theorem dX5_again_64 : decode cX5_again 64 = .ok (.iadd, 1) := dk_96 (dk_at dksX5_again_2 16 rfl rfl)
theorem dX5_again_65 : decode cX5_again 65 = .ok (.iaload, 1) := dk_46 (dk_at dksX5_again_2 17 rfl rfl)
theorem dX5_again_66 : decode cX5_again 66 = .ok (.iastore, 1) := dk_79 (dk_at dksX5_again_2 18 rfl rfl)
theorem dX5_again_67 : decode cX5_again 67 = .ok (.aload_n 0, 1) := dk_42 (dk_at dksX5_again_2 19 rfl rfl)
theorem dX5_again_68 : decode cX5_again 68 = .ok (.getfield 22, 3) := dk_180 0 22 (dk_at dksX5_again_2 20 rfl rfl)
theorem dX5_again_71 : decode cX5_again 71 = .ok (.iload_n 2, 1) := dk_28 (dk_at dksX5_again_2 23 rfl rfl)
theorem dX5_again_72 : decode cX5_again 72 = .ok (.aload_n 1, 1) := dk_43 (dk_at dksX5_again_3 0 rfl rfl)
theorem dX5_again_73 : decode cX5_again 73 = .ok (.bipush 36, 2) := dk_16 36 (dk_at dksX5_again_3 1 rfl rfl)
theorem dX5_again_75 : decode cX5_again 75 = .ok (.iload_n 2, 1) := dk_28 (dk_at dksX5_again_3 3 rfl rfl)
theorem dX5_again_76 : decode cX5_again 76 = .ok (.iadd, 1) := dk_96 (dk_at dksX5_again_3 4 rfl rfl)
theorem dX5_again_77 : decode cX5_again 77 = .ok (.iaload, 1) := dk_46 (dk_at dksX5_again_3 5 rfl rfl)
theorem dX5_again_78 : decode cX5_again 78 = .ok (.iastore, 1) := dk_79 (dk_at dksX5_again_3 6 rfl rfl)
theorem dX5_again_79 : decode cX5_again 79 = .ok (.aload_n 0, 1) := dk_42 (dk_at dksX5_again_3 7 rfl rfl)
theorem dX5_again_80 : decode cX5_again 80 = .ok (.getfield 25, 3) := dk_180 0 25 (dk_at dksX5_again_3 8 rfl rfl)
theorem dX5_again_83 : decode cX5_again 83 = .ok (.iload_n 2, 1) := dk_28 (dk_at dksX5_again_3 11 rfl rfl)
theorem dX5_again_84 : decode cX5_again 84 = .ok (.aload_n 1, 1) := dk_43 (dk_at dksX5_again_3 12 rfl rfl)
theorem dX5_again_85 : decode cX5_again 85 = .ok (.bipush 44, 2) := dk_16 44 (dk_at dksX5_again_3 13 rfl rfl)
theorem dX5_again_87 : decode cX5_again 87 = .ok (.iload_n 2, 1) := dk_28 (dk_at dksX5_again_3 15 rfl rfl)
theorem dX5_again_88 : decode cX5_again 88 = .ok (.iadd, 1) := dk_96 (dk_at dksX5_again_3 16 rfl rfl)
theorem dX5_again_89 : decode cX5_again 89 = .ok (.iaload, 1) := dk_46 (dk_at dksX5_again_3 17 rfl rfl)
theorem dX5_again_90 : decode cX5_again 90 = .ok (.iastore, 1) := dk_79 (dk_at dksX5_again_3 18 rfl rfl)
theorem dX5_again_91 : decode cX5_again 91 = .ok (.aload_n 0, 1) := dk_42 (dk_at dksX5_again_3 19 rfl rfl)
theorem dX5_again_92 : decode cX5_again 92 = .ok (.getfield 28, 3) := dk_180 0 28 (dk_at dksX5_again_3 20 rfl rfl)
theorem dX5_again_95 : decode cX5_again 95 = .ok (.iload_n 2, 1) := dk_28 (dk_at dksX5_again_3 23 rfl rfl)
theorem dX5_again_96 : decode cX5_again 96 = .ok (.aload_n 1, 1) := dk_43 (dk_at dksX5_again_4 0 rfl rfl)
theorem dX5_again_97 : decode cX5_again 97 = .ok (.bipush 52, 2) := dk_16 52 (dk_at dksX5_again_4 1 rfl rfl)
theorem dX5_again_99 : decode cX5_again 99 = .ok (.iload_n 2, 1) := dk_28 (dk_at dksX5_again_4 3 rfl rfl)
theorem dX5_again_100 : decode cX5_again 100 = .ok (.iadd, 1) := dk_96 (dk_at dksX5_again_4 4 rfl rfl)
theorem dX5_again_101 : decode cX5_again 101 = .ok (.iaload, 1) := dk_46 (dk_at dksX5_again_4 5 rfl rfl)
theorem dX5_again_102 : decode cX5_again 102 = .ok (.iastore, 1) := dk_79 (dk_at dksX5_again_4 6 rfl rfl)
theorem dX5_again_103 : decode cX5_again 103 = .ok (.iinc 2 1, 3) := dk_132 2 1 (dk_at dksX5_again_4 7 rfl rfl)
theorem dX5_again_106 : decode cX5_again 106 = .ok (.goto (-81), 3) := dk_167 255 175 (dk_at dksX5_again_4 10 rfl rfl)
theorem dX5_again_109 : decode cX5_again 109 = .ok (.iconst 0, 1) := dk_3 (dk_at dksX5_again_4 13 rfl rfl)
theorem dX5_again_110 : decode cX5_again 110 = .ok (.istore_n 2, 1) := dk_61 (dk_at dksX5_again_4 14 rfl rfl)
theorem dX5_again_111 : decode cX5_again 111 = .ok (.iload_n 2, 1) := dk_28 (dk_at dksX5_again_4 15 rfl rfl)
theorem dX5_again_112 : decode cX5_again 112 = .ok (.bipush 64, 2) := dk_16 64 (dk_at dksX5_again_4 16 rfl rfl)
theorem dX5_again_114 : decode cX5_again 114 = .ok (.if_icmp .ge 21, 3) := dk_162 0 21 (dk_at dksX5_again_4 18 rfl rfl)
theorem dX5_again_117 : decode cX5_again 117 = .ok (.aload_n 0, 1) := dk_42 (dk_at dksX5_again_4 21 rfl rfl)
theorem dX5_again_118 : decode cX5_again 118 = .ok (.getfield 31, 3) := dk_180 0 31 (dk_at dksX5_again_5 0 rfl rfl)
theorem dX5_again_121 : decode cX5_again 121 = .ok (.iload_n 2, 1) := dk_28 (dk_at dksX5_again_5 3 rfl rfl)
theorem dX5_again_122 : decode cX5_again 122 = .ok (.aload_n 1, 1) := dk_43 (dk_at dksX5_again_5 4 rfl rfl)
theorem dX5_again_123 : decode cX5_again 123 = .ok (.bipush 60, 2) := dk_16 60 (dk_at dksX5_again_5 5 rfl rfl)
theorem dX5_again_125 : decode cX5_again 125 = .ok (.iload_n 2, 1) := dk_28 (dk_at dksX5_again_5 7 rfl rfl)
theorem dX5_again_126 : decode cX5_again 126 = .ok (.iadd, 1) := dk_96 (dk_at dksX5_again_5 8 rfl rfl)
theorem dX5_again_127 : decode cX5_again 127 = .ok (.iaload, 1) := dk_46 (dk_at dksX5_again_5 9 rfl rfl)
theorem dX5_again_128 : decode cX5_again 128 = .ok (.iastore, 1) := dk_79 (dk_at dksX5_again_5 10 rfl rfl)
theorem dX5_again_129 : decode cX5_again 129 = .ok (.iinc 2 1, 3) := dk_132 2 1 (dk_at dksX5_again_5 11 rfl rfl)
theorem dX5_again_132 : decode cX5_again 132 = .ok (.goto (-21), 3) := dk_167 255 235 (dk_at dksX5_again_5 14 rfl rfl)
theorem dX5_again_135 : decode cX5_again 135 = .ok (.aload_n 0, 1) := dk_42 (dk_at dksX5_again_5 17 rfl rfl)
theorem dX5_again_136 : decode cX5_again 136 = .ok (.aload_n 1, 1) := dk_43 (dk_at dksX5_again_5 18 rfl rfl)
theorem dX5_again_137 : decode cX5_again 137 = .ok (.bipush 124, 2) := dk_16 124 (dk_at dksX5_again_5 19 rfl rfl)
theorem dX5_again_139 : decode cX5_again 139 = .ok (.iaload, 1) := dk_46 (dk_at dksX5_again_5 21 rfl rfl)
theorem dX5_again_140 : decode cX5_again 140 = .ok (.putfield 89, 3) := dk_181 0 89 (dk_at dksX5_again_6 0 rfl rfl)
theorem dX5_again_143 : decode cX5_again 143 = .ok (.aload_n 0, 1) := dk_42 (dk_at dksX5_again_6 3 rfl rfl)
theorem dX5_again_144 : decode cX5_again 144 = .ok (.aload_n 1, 1) := dk_43 (dk_at dksX5_again_6 4 rfl rfl)
theorem dX5_again_145 : decode cX5_again 145 = .ok (.bipush 125, 2) := dk_16 125 (dk_at dksX5_again_6 5 rfl rfl)
theorem dX5_again_147 : decode cX5_again 147 = .ok (.iaload, 1) := dk_46 (dk_at dksX5_again_6 7 rfl rfl)
theorem dX5_again_148 : decode cX5_again 148 = .ok (.putfield 304, 3) := dk_181 1 48 (dk_at dksX5_again_6 8 rfl rfl)
theorem dX5_again_151 : decode cX5_again 151 = .ok (.aload_n 0, 1) := dk_42 (dk_at dksX5_again_6 11 rfl rfl)
theorem dX5_again_152 : decode cX5_again 152 = .ok (.aload_n 1, 1) := dk_43 (dk_at dksX5_again_6 12 rfl rfl)
theorem dX5_again_153 : decode cX5_again 153 = .ok (.bipush 126, 2) := dk_16 126 (dk_at dksX5_again_6 13 rfl rfl)
theorem dX5_again_155 : decode cX5_again 155 = .ok (.iaload, 1) := dk_46 (dk_at dksX5_again_6 15 rfl rfl)
theorem dX5_again_156 : decode cX5_again 156 = .ok (.putfield 81, 3) := dk_181 0 81 (dk_at dksX5_again_6 16 rfl rfl)
theorem dX5_again_159 : decode cX5_again 159 = .ok (.return_, 1) := dk_177 (dk_at dksX5_again_6 19 rfl rfl)
abbrev cX5_sortAt : ByteArray := prog_17_method_36_code
def yX5_sortAt : MethodName := ⟨RX5, "sortAt", "(I)I"⟩
def dkwX5_sortAt_0 : List UInt8 := [27, 184, 0, 121, 153, 0, 12, 42, 180, 0, 9, 27, 46, 167, 0, 9, 42, 16, 254, 182, 0, 96, 172]
abbrev dktX5_sortAt_0 : List UInt8 := dkwX5_sortAt_0 ++ []
theorem dksX5_sortAt_0 : cX5_sortAt.data.toList.drop 0 = dktX5_sortAt_0 := by decide +kernel
theorem dX5_sortAt_0 : decode cX5_sortAt 0 = .ok (.iload_n 1, 1) := dk_27 (dk_at dksX5_sortAt_0 0 rfl rfl)
theorem dX5_sortAt_1 : decode cX5_sortAt 1 = .ok (.invokestatic 121, 3) := dk_184 0 121 (dk_at dksX5_sortAt_0 1 rfl rfl)
theorem dX5_sortAt_4 : decode cX5_sortAt 4 = .ok (.ifCond .eq 12, 3) := dk_153 0 12 (dk_at dksX5_sortAt_0 4 rfl rfl)
theorem dX5_sortAt_7 : decode cX5_sortAt 7 = .ok (.aload_n 0, 1) := dk_42 (dk_at dksX5_sortAt_0 7 rfl rfl)
theorem dX5_sortAt_8 : decode cX5_sortAt 8 = .ok (.getfield 9, 3) := dk_180 0 9 (dk_at dksX5_sortAt_0 8 rfl rfl)
theorem dX5_sortAt_11 : decode cX5_sortAt 11 = .ok (.iload_n 1, 1) := dk_27 (dk_at dksX5_sortAt_0 11 rfl rfl)
theorem dX5_sortAt_12 : decode cX5_sortAt 12 = .ok (.iaload, 1) := dk_46 (dk_at dksX5_sortAt_0 12 rfl rfl)
theorem dX5_sortAt_13 : decode cX5_sortAt 13 = .ok (.goto 9, 3) := dk_167 0 9 (dk_at dksX5_sortAt_0 13 rfl rfl)
theorem dX5_sortAt_16 : decode cX5_sortAt 16 = .ok (.aload_n 0, 1) := dk_42 (dk_at dksX5_sortAt_0 16 rfl rfl)
theorem dX5_sortAt_17 : decode cX5_sortAt 17 = .ok (.bipush (-2), 2) := dk_16 254 (dk_at dksX5_sortAt_0 17 rfl rfl)
theorem dX5_sortAt_19 : decode cX5_sortAt 19 = .ok (.invokevirtual 96, 3) := dk_182 0 96 (dk_at dksX5_sortAt_0 19 rfl rfl)
theorem dX5_sortAt_22 : decode cX5_sortAt 22 = .ok (.ireturn, 1) := dk_172 (dk_at dksX5_sortAt_0 22 rfl rfl)
abbrev cX5_lookerOf : ByteArray := prog_17_method_37_code
def yX5_lookerOf : MethodName := ⟨RX5, "lookerOf", "(II)I"⟩
def dkwX5_lookerOf_5 : List UInt8 := [167, 0, 9, 42, 16, 254, 182, 0, 96, 172]
abbrev dktX5_lookerOf_5 : List UInt8 := dkwX5_lookerOf_5 ++ []
def dkwX5_lookerOf_4 : List UInt8 := [16, 17, 184, 0, 85, 153, 0, 20, 42, 180, 0, 31, 16, 8, 27, 104, 28, 96, 16, 10, 100, 46]
abbrev dktX5_lookerOf_4 : List UInt8 := dkwX5_lookerOf_4 ++ dktX5_lookerOf_5
def dkwX5_lookerOf_3 : List UInt8 := [180, 0, 22, 27, 46, 172, 42, 180, 0, 25, 27, 46, 172, 42, 180, 0, 28, 27, 46, 172, 28, 16, 10]
abbrev dktX5_lookerOf_3 : List UInt8 := dkwX5_lookerOf_3 ++ dktX5_lookerOf_4
def dkwX5_lookerOf_2 : List UInt8 := [42, 180, 0, 13, 27, 46, 172, 42, 180, 0, 16, 27, 46, 172, 42, 180, 0, 19, 27, 46, 172, 42]
abbrev dktX5_lookerOf_2 : List UInt8 := dkwX5_lookerOf_2 ++ dktX5_lookerOf_3
def dkwX5_lookerOf_1 : List UInt8 := [170, 0, 0, 0, 0, 0, 0, 82, 0, 0, 0, 0, 0, 0, 0, 5, 0, 0, 0, 40, 0, 0, 0, 47, 0, 0, 0, 54, 0, 0, 0, 61, 0, 0, 0, 68, 0, 0, 0, 75]
abbrev dktX5_lookerOf_1 : List UInt8 := dkwX5_lookerOf_1 ++ dktX5_lookerOf_2
def dkwX5_lookerOf_0 : List UInt8 := [42, 27, 182, 0, 110, 154, 0, 10, 42, 16, 254, 182, 0, 96, 172, 28]
abbrev dktX5_lookerOf_0 : List UInt8 := dkwX5_lookerOf_0 ++ dktX5_lookerOf_1
theorem dksX5_lookerOf_0 : cX5_lookerOf.data.toList.drop 0 = dktX5_lookerOf_0 := by decide +kernel
theorem dksX5_lookerOf_1 : cX5_lookerOf.data.toList.drop 16 = dktX5_lookerOf_1 := dk_seg dksX5_lookerOf_0 16 rfl rfl
theorem dksX5_lookerOf_2 : cX5_lookerOf.data.toList.drop 56 = dktX5_lookerOf_2 := dk_seg dksX5_lookerOf_1 40 rfl rfl
theorem dksX5_lookerOf_3 : cX5_lookerOf.data.toList.drop 78 = dktX5_lookerOf_3 := dk_seg dksX5_lookerOf_2 22 rfl rfl
theorem dksX5_lookerOf_4 : cX5_lookerOf.data.toList.drop 101 = dktX5_lookerOf_4 := dk_seg dksX5_lookerOf_3 23 rfl rfl
theorem dksX5_lookerOf_5 : cX5_lookerOf.data.toList.drop 123 = dktX5_lookerOf_5 := dk_seg dksX5_lookerOf_4 22 rfl rfl
theorem dX5_lookerOf_0 : decode cX5_lookerOf 0 = .ok (.aload_n 0, 1) := dk_42 (dk_at dksX5_lookerOf_0 0 rfl rfl)
theorem dX5_lookerOf_1 : decode cX5_lookerOf 1 = .ok (.iload_n 1, 1) := dk_27 (dk_at dksX5_lookerOf_0 1 rfl rfl)
theorem dX5_lookerOf_2 : decode cX5_lookerOf 2 = .ok (.invokevirtual 110, 3) := dk_182 0 110 (dk_at dksX5_lookerOf_0 2 rfl rfl)
theorem dX5_lookerOf_5 : decode cX5_lookerOf 5 = .ok (.ifCond .ne 10, 3) := dk_154 0 10 (dk_at dksX5_lookerOf_0 5 rfl rfl)
theorem dX5_lookerOf_8 : decode cX5_lookerOf 8 = .ok (.aload_n 0, 1) := dk_42 (dk_at dksX5_lookerOf_0 8 rfl rfl)
theorem dX5_lookerOf_9 : decode cX5_lookerOf 9 = .ok (.bipush (-2), 2) := dk_16 254 (dk_at dksX5_lookerOf_0 9 rfl rfl)
theorem dX5_lookerOf_11 : decode cX5_lookerOf 11 = .ok (.invokevirtual 96, 3) := dk_182 0 96 (dk_at dksX5_lookerOf_0 11 rfl rfl)
theorem dX5_lookerOf_14 : decode cX5_lookerOf 14 = .ok (.ireturn, 1) := dk_172 (dk_at dksX5_lookerOf_0 14 rfl rfl)
theorem dX5_lookerOf_15 : decode cX5_lookerOf 15 = .ok (.iload_n 2, 1) := dk_28 (dk_at dksX5_lookerOf_0 15 rfl rfl)
theorem dX5_lookerOf_16 : decode cX5_lookerOf 16 = .ok (.tableswitch 82 0 5 #[40, 47, 54, 61, 68, 75], 40) := by decide +kernel
theorem dX5_lookerOf_56 : decode cX5_lookerOf 56 = .ok (.aload_n 0, 1) := dk_42 (dk_at dksX5_lookerOf_2 0 rfl rfl)
theorem dX5_lookerOf_57 : decode cX5_lookerOf 57 = .ok (.getfield 13, 3) := dk_180 0 13 (dk_at dksX5_lookerOf_2 1 rfl rfl)
theorem dX5_lookerOf_60 : decode cX5_lookerOf 60 = .ok (.iload_n 1, 1) := dk_27 (dk_at dksX5_lookerOf_2 4 rfl rfl)
theorem dX5_lookerOf_61 : decode cX5_lookerOf 61 = .ok (.iaload, 1) := dk_46 (dk_at dksX5_lookerOf_2 5 rfl rfl)
theorem dX5_lookerOf_62 : decode cX5_lookerOf 62 = .ok (.ireturn, 1) := dk_172 (dk_at dksX5_lookerOf_2 6 rfl rfl)
theorem dX5_lookerOf_63 : decode cX5_lookerOf 63 = .ok (.aload_n 0, 1) := dk_42 (dk_at dksX5_lookerOf_2 7 rfl rfl)
theorem dX5_lookerOf_64 : decode cX5_lookerOf 64 = .ok (.getfield 16, 3) := dk_180 0 16 (dk_at dksX5_lookerOf_2 8 rfl rfl)
theorem dX5_lookerOf_67 : decode cX5_lookerOf 67 = .ok (.iload_n 1, 1) := dk_27 (dk_at dksX5_lookerOf_2 11 rfl rfl)
theorem dX5_lookerOf_68 : decode cX5_lookerOf 68 = .ok (.iaload, 1) := dk_46 (dk_at dksX5_lookerOf_2 12 rfl rfl)
theorem dX5_lookerOf_69 : decode cX5_lookerOf 69 = .ok (.ireturn, 1) := dk_172 (dk_at dksX5_lookerOf_2 13 rfl rfl)
theorem dX5_lookerOf_70 : decode cX5_lookerOf 70 = .ok (.aload_n 0, 1) := dk_42 (dk_at dksX5_lookerOf_2 14 rfl rfl)
theorem dX5_lookerOf_71 : decode cX5_lookerOf 71 = .ok (.getfield 19, 3) := dk_180 0 19 (dk_at dksX5_lookerOf_2 15 rfl rfl)
theorem dX5_lookerOf_74 : decode cX5_lookerOf 74 = .ok (.iload_n 1, 1) := dk_27 (dk_at dksX5_lookerOf_2 18 rfl rfl)
theorem dX5_lookerOf_75 : decode cX5_lookerOf 75 = .ok (.iaload, 1) := dk_46 (dk_at dksX5_lookerOf_2 19 rfl rfl)
theorem dX5_lookerOf_76 : decode cX5_lookerOf 76 = .ok (.ireturn, 1) := dk_172 (dk_at dksX5_lookerOf_2 20 rfl rfl)
theorem dX5_lookerOf_77 : decode cX5_lookerOf 77 = .ok (.aload_n 0, 1) := dk_42 (dk_at dksX5_lookerOf_2 21 rfl rfl)
theorem dX5_lookerOf_78 : decode cX5_lookerOf 78 = .ok (.getfield 22, 3) := dk_180 0 22 (dk_at dksX5_lookerOf_3 0 rfl rfl)
theorem dX5_lookerOf_81 : decode cX5_lookerOf 81 = .ok (.iload_n 1, 1) := dk_27 (dk_at dksX5_lookerOf_3 3 rfl rfl)
theorem dX5_lookerOf_82 : decode cX5_lookerOf 82 = .ok (.iaload, 1) := dk_46 (dk_at dksX5_lookerOf_3 4 rfl rfl)
theorem dX5_lookerOf_83 : decode cX5_lookerOf 83 = .ok (.ireturn, 1) := dk_172 (dk_at dksX5_lookerOf_3 5 rfl rfl)
theorem dX5_lookerOf_84 : decode cX5_lookerOf 84 = .ok (.aload_n 0, 1) := dk_42 (dk_at dksX5_lookerOf_3 6 rfl rfl)
theorem dX5_lookerOf_85 : decode cX5_lookerOf 85 = .ok (.getfield 25, 3) := dk_180 0 25 (dk_at dksX5_lookerOf_3 7 rfl rfl)
theorem dX5_lookerOf_88 : decode cX5_lookerOf 88 = .ok (.iload_n 1, 1) := dk_27 (dk_at dksX5_lookerOf_3 10 rfl rfl)
theorem dX5_lookerOf_89 : decode cX5_lookerOf 89 = .ok (.iaload, 1) := dk_46 (dk_at dksX5_lookerOf_3 11 rfl rfl)
theorem dX5_lookerOf_90 : decode cX5_lookerOf 90 = .ok (.ireturn, 1) := dk_172 (dk_at dksX5_lookerOf_3 12 rfl rfl)
theorem dX5_lookerOf_91 : decode cX5_lookerOf 91 = .ok (.aload_n 0, 1) := dk_42 (dk_at dksX5_lookerOf_3 13 rfl rfl)
theorem dX5_lookerOf_92 : decode cX5_lookerOf 92 = .ok (.getfield 28, 3) := dk_180 0 28 (dk_at dksX5_lookerOf_3 14 rfl rfl)
theorem dX5_lookerOf_95 : decode cX5_lookerOf 95 = .ok (.iload_n 1, 1) := dk_27 (dk_at dksX5_lookerOf_3 17 rfl rfl)
theorem dX5_lookerOf_96 : decode cX5_lookerOf 96 = .ok (.iaload, 1) := dk_46 (dk_at dksX5_lookerOf_3 18 rfl rfl)
theorem dX5_lookerOf_97 : decode cX5_lookerOf 97 = .ok (.ireturn, 1) := dk_172 (dk_at dksX5_lookerOf_3 19 rfl rfl)
theorem dX5_lookerOf_98 : decode cX5_lookerOf 98 = .ok (.iload_n 2, 1) := dk_28 (dk_at dksX5_lookerOf_3 20 rfl rfl)
theorem dX5_lookerOf_99 : decode cX5_lookerOf 99 = .ok (.bipush 10, 2) := dk_16 10 (dk_at dksX5_lookerOf_3 21 rfl rfl)
theorem dX5_lookerOf_101 : decode cX5_lookerOf 101 = .ok (.bipush 17, 2) := dk_16 17 (dk_at dksX5_lookerOf_4 0 rfl rfl)
theorem dX5_lookerOf_103 : decode cX5_lookerOf 103 = .ok (.invokestatic 85, 3) := dk_184 0 85 (dk_at dksX5_lookerOf_4 2 rfl rfl)
theorem dX5_lookerOf_106 : decode cX5_lookerOf 106 = .ok (.ifCond .eq 20, 3) := dk_153 0 20 (dk_at dksX5_lookerOf_4 5 rfl rfl)
theorem dX5_lookerOf_109 : decode cX5_lookerOf 109 = .ok (.aload_n 0, 1) := dk_42 (dk_at dksX5_lookerOf_4 8 rfl rfl)
theorem dX5_lookerOf_110 : decode cX5_lookerOf 110 = .ok (.getfield 31, 3) := dk_180 0 31 (dk_at dksX5_lookerOf_4 9 rfl rfl)
theorem dX5_lookerOf_113 : decode cX5_lookerOf 113 = .ok (.bipush 8, 2) := dk_16 8 (dk_at dksX5_lookerOf_4 12 rfl rfl)
theorem dX5_lookerOf_115 : decode cX5_lookerOf 115 = .ok (.iload_n 1, 1) := dk_27 (dk_at dksX5_lookerOf_4 14 rfl rfl)
theorem dX5_lookerOf_116 : decode cX5_lookerOf 116 = .ok (.imul, 1) := dk_104 (dk_at dksX5_lookerOf_4 15 rfl rfl)
theorem dX5_lookerOf_117 : decode cX5_lookerOf 117 = .ok (.iload_n 2, 1) := dk_28 (dk_at dksX5_lookerOf_4 16 rfl rfl)
theorem dX5_lookerOf_118 : decode cX5_lookerOf 118 = .ok (.iadd, 1) := dk_96 (dk_at dksX5_lookerOf_4 17 rfl rfl)
theorem dX5_lookerOf_119 : decode cX5_lookerOf 119 = .ok (.bipush 10, 2) := dk_16 10 (dk_at dksX5_lookerOf_4 18 rfl rfl)
theorem dX5_lookerOf_121 : decode cX5_lookerOf 121 = .ok (.isub, 1) := dk_100 (dk_at dksX5_lookerOf_4 20 rfl rfl)
theorem dX5_lookerOf_122 : decode cX5_lookerOf 122 = .ok (.iaload, 1) := dk_46 (dk_at dksX5_lookerOf_4 21 rfl rfl)
theorem dX5_lookerOf_123 : decode cX5_lookerOf 123 = .ok (.goto 9, 3) := dk_167 0 9 (dk_at dksX5_lookerOf_5 0 rfl rfl)
theorem dX5_lookerOf_126 : decode cX5_lookerOf 126 = .ok (.aload_n 0, 1) := dk_42 (dk_at dksX5_lookerOf_5 3 rfl rfl)
theorem dX5_lookerOf_127 : decode cX5_lookerOf 127 = .ok (.bipush (-2), 2) := dk_16 254 (dk_at dksX5_lookerOf_5 4 rfl rfl)
theorem dX5_lookerOf_129 : decode cX5_lookerOf 129 = .ok (.invokevirtual 96, 3) := dk_182 0 96 (dk_at dksX5_lookerOf_5 6 rfl rfl)
theorem dX5_lookerOf_132 : decode cX5_lookerOf 132 = .ok (.ireturn, 1) := dk_172 (dk_at dksX5_lookerOf_5 9 rfl rfl)
abbrev cX5_left : ByteArray := prog_17_method_52_code
def yX5_left : MethodName := ⟨RX5, "left", "(I)I"⟩
def dkwX5_left_1 : List UInt8 := [172]
abbrev dktX5_left_1 : List UInt8 := dkwX5_left_1 ++ []
def dkwX5_left_0 : List UInt8 := [42, 27, 182, 0, 234, 154, 0, 10, 42, 16, 254, 182, 0, 96, 172, 42, 27, 182, 0, 117, 42, 182, 0, 237]
abbrev dktX5_left_0 : List UInt8 := dkwX5_left_0 ++ dktX5_left_1
theorem dksX5_left_0 : cX5_left.data.toList.drop 0 = dktX5_left_0 := by decide +kernel
theorem dksX5_left_1 : cX5_left.data.toList.drop 24 = dktX5_left_1 := dk_seg dksX5_left_0 24 rfl rfl
theorem dX5_left_0 : decode cX5_left 0 = .ok (.aload_n 0, 1) := dk_42 (dk_at dksX5_left_0 0 rfl rfl)
theorem dX5_left_1 : decode cX5_left 1 = .ok (.iload_n 1, 1) := dk_27 (dk_at dksX5_left_0 1 rfl rfl)
theorem dX5_left_2 : decode cX5_left 2 = .ok (.invokevirtual 234, 3) := dk_182 0 234 (dk_at dksX5_left_0 2 rfl rfl)
theorem dX5_left_5 : decode cX5_left 5 = .ok (.ifCond .ne 10, 3) := dk_154 0 10 (dk_at dksX5_left_0 5 rfl rfl)
theorem dX5_left_8 : decode cX5_left 8 = .ok (.aload_n 0, 1) := dk_42 (dk_at dksX5_left_0 8 rfl rfl)
theorem dX5_left_9 : decode cX5_left 9 = .ok (.bipush (-2), 2) := dk_16 254 (dk_at dksX5_left_0 9 rfl rfl)
theorem dX5_left_11 : decode cX5_left 11 = .ok (.invokevirtual 96, 3) := dk_182 0 96 (dk_at dksX5_left_0 11 rfl rfl)
theorem dX5_left_14 : decode cX5_left 14 = .ok (.ireturn, 1) := dk_172 (dk_at dksX5_left_0 14 rfl rfl)
theorem dX5_left_15 : decode cX5_left 15 = .ok (.aload_n 0, 1) := dk_42 (dk_at dksX5_left_0 15 rfl rfl)
theorem dX5_left_16 : decode cX5_left 16 = .ok (.iload_n 1, 1) := dk_27 (dk_at dksX5_left_0 16 rfl rfl)
theorem dX5_left_17 : decode cX5_left 17 = .ok (.invokevirtual 117, 3) := dk_182 0 117 (dk_at dksX5_left_0 17 rfl rfl)
theorem dX5_left_20 : decode cX5_left 20 = .ok (.aload_n 0, 1) := dk_42 (dk_at dksX5_left_0 20 rfl rfl)
theorem dX5_left_21 : decode cX5_left 21 = .ok (.invokevirtual 237, 3) := dk_182 0 237 (dk_at dksX5_left_0 21 rfl rfl)
theorem dX5_left_24 : decode cX5_left 24 = .ok (.ireturn, 1) := dk_172 (dk_at dksX5_left_1 0 rfl rfl)
abbrev cX5_isSet : ByteArray := prog_17_method_8_code
def yX5_isSet : MethodName := ⟨RX5, "isSet", "(I)Z"⟩
def dkwX5_isSet_0 : List UInt8 := [27, 3, 4, 42, 180, 0, 89, 120, 4, 100, 184, 0, 85, 172]
abbrev dktX5_isSet_0 : List UInt8 := dkwX5_isSet_0 ++ []
theorem dksX5_isSet_0 : cX5_isSet.data.toList.drop 0 = dktX5_isSet_0 := by decide +kernel
theorem dX5_isSet_0 : decode cX5_isSet 0 = .ok (.iload_n 1, 1) := dk_27 (dk_at dksX5_isSet_0 0 rfl rfl)
theorem dX5_isSet_1 : decode cX5_isSet 1 = .ok (.iconst 0, 1) := dk_3 (dk_at dksX5_isSet_0 1 rfl rfl)
theorem dX5_isSet_2 : decode cX5_isSet 2 = .ok (.iconst 1, 1) := dk_4 (dk_at dksX5_isSet_0 2 rfl rfl)
theorem dX5_isSet_3 : decode cX5_isSet 3 = .ok (.aload_n 0, 1) := dk_42 (dk_at dksX5_isSet_0 3 rfl rfl)
theorem dX5_isSet_4 : decode cX5_isSet 4 = .ok (.getfield 89, 3) := dk_180 0 89 (dk_at dksX5_isSet_0 4 rfl rfl)
theorem dX5_isSet_7 : decode cX5_isSet 7 = .ok (.ishl, 1) := dk_120 (dk_at dksX5_isSet_0 7 rfl rfl)
theorem dX5_isSet_8 : decode cX5_isSet 8 = .ok (.iconst 1, 1) := dk_4 (dk_at dksX5_isSet_0 8 rfl rfl)
theorem dX5_isSet_9 : decode cX5_isSet 9 = .ok (.isub, 1) := dk_100 (dk_at dksX5_isSet_0 9 rfl rfl)
theorem dX5_isSet_10 : decode cX5_isSet 10 = .ok (.invokestatic 85, 3) := dk_184 0 85 (dk_at dksX5_isSet_0 10 rfl rfl)
theorem dX5_isSet_13 : decode cX5_isSet 13 = .ok (.ireturn, 1) := dk_172 (dk_at dksX5_isSet_0 13 rfl rfl)
abbrev cX5_leftThen : ByteArray := prog_17_method_49_code
def yX5_leftThen : MethodName := ⟨RX5, "leftThen", "()I"⟩
def dkwX5_leftThen_1 : List UInt8 := [128, 60, 132, 2, 1, 167, 255, 231, 27, 172]
abbrev dktX5_leftThen_1 : List UInt8 := dkwX5_leftThen_1 ++ []
def dkwX5_leftThen_0 : List UInt8 := [3, 60, 3, 61, 28, 16, 12, 162, 0, 25, 42, 180, 0, 56, 28, 46, 2, 159, 0, 9, 27, 4, 28, 120]
abbrev dktX5_leftThen_0 : List UInt8 := dkwX5_leftThen_0 ++ dktX5_leftThen_1
theorem dksX5_leftThen_0 : cX5_leftThen.data.toList.drop 0 = dktX5_leftThen_0 := by decide +kernel
theorem dksX5_leftThen_1 : cX5_leftThen.data.toList.drop 24 = dktX5_leftThen_1 := dk_seg dksX5_leftThen_0 24 rfl rfl
theorem dX5_leftThen_0 : decode cX5_leftThen 0 = .ok (.iconst 0, 1) := dk_3 (dk_at dksX5_leftThen_0 0 rfl rfl)
theorem dX5_leftThen_1 : decode cX5_leftThen 1 = .ok (.istore_n 1, 1) := dk_60 (dk_at dksX5_leftThen_0 1 rfl rfl)
theorem dX5_leftThen_2 : decode cX5_leftThen 2 = .ok (.iconst 0, 1) := dk_3 (dk_at dksX5_leftThen_0 2 rfl rfl)
theorem dX5_leftThen_3 : decode cX5_leftThen 3 = .ok (.istore_n 2, 1) := dk_61 (dk_at dksX5_leftThen_0 3 rfl rfl)
theorem dX5_leftThen_4 : decode cX5_leftThen 4 = .ok (.iload_n 2, 1) := dk_28 (dk_at dksX5_leftThen_0 4 rfl rfl)
theorem dX5_leftThen_5 : decode cX5_leftThen 5 = .ok (.bipush 12, 2) := dk_16 12 (dk_at dksX5_leftThen_0 5 rfl rfl)
theorem dX5_leftThen_7 : decode cX5_leftThen 7 = .ok (.if_icmp .ge 25, 3) := dk_162 0 25 (dk_at dksX5_leftThen_0 7 rfl rfl)
theorem dX5_leftThen_10 : decode cX5_leftThen 10 = .ok (.aload_n 0, 1) := dk_42 (dk_at dksX5_leftThen_0 10 rfl rfl)
theorem dX5_leftThen_11 : decode cX5_leftThen 11 = .ok (.getfield 56, 3) := dk_180 0 56 (dk_at dksX5_leftThen_0 11 rfl rfl)
theorem dX5_leftThen_14 : decode cX5_leftThen 14 = .ok (.iload_n 2, 1) := dk_28 (dk_at dksX5_leftThen_0 14 rfl rfl)
theorem dX5_leftThen_15 : decode cX5_leftThen 15 = .ok (.iaload, 1) := dk_46 (dk_at dksX5_leftThen_0 15 rfl rfl)
theorem dX5_leftThen_16 : decode cX5_leftThen 16 = .ok (.iconst (-1), 1) := dk_2 (dk_at dksX5_leftThen_0 16 rfl rfl)
theorem dX5_leftThen_17 : decode cX5_leftThen 17 = .ok (.if_icmp .eq 9, 3) := dk_159 0 9 (dk_at dksX5_leftThen_0 17 rfl rfl)
theorem dX5_leftThen_20 : decode cX5_leftThen 20 = .ok (.iload_n 1, 1) := dk_27 (dk_at dksX5_leftThen_0 20 rfl rfl)
theorem dX5_leftThen_21 : decode cX5_leftThen 21 = .ok (.iconst 1, 1) := dk_4 (dk_at dksX5_leftThen_0 21 rfl rfl)
theorem dX5_leftThen_22 : decode cX5_leftThen 22 = .ok (.iload_n 2, 1) := dk_28 (dk_at dksX5_leftThen_0 22 rfl rfl)
theorem dX5_leftThen_23 : decode cX5_leftThen 23 = .ok (.ishl, 1) := dk_120 (dk_at dksX5_leftThen_0 23 rfl rfl)
theorem dX5_leftThen_24 : decode cX5_leftThen 24 = .ok (.ior, 1) := dk_128 (dk_at dksX5_leftThen_1 0 rfl rfl)
theorem dX5_leftThen_25 : decode cX5_leftThen 25 = .ok (.istore_n 1, 1) := dk_60 (dk_at dksX5_leftThen_1 1 rfl rfl)
theorem dX5_leftThen_26 : decode cX5_leftThen 26 = .ok (.iinc 2 1, 3) := dk_132 2 1 (dk_at dksX5_leftThen_1 2 rfl rfl)
theorem dX5_leftThen_29 : decode cX5_leftThen 29 = .ok (.goto (-25), 3) := dk_167 255 231 (dk_at dksX5_leftThen_1 5 rfl rfl)
theorem dX5_leftThen_32 : decode cX5_leftThen 32 = .ok (.iload_n 1, 1) := dk_27 (dk_at dksX5_leftThen_1 8 rfl rfl)
theorem dX5_leftThen_33 : decode cX5_leftThen 33 = .ok (.ireturn, 1) := dk_172 (dk_at dksX5_leftThen_1 9 rfl rfl)
abbrev cX5_taken : ByteArray := prog_17_method_53_code
def yX5_taken : MethodName := ⟨RX5, "taken", "(II)I"⟩
def dkwX5_taken_1 : List UInt8 := [27, 182, 0, 117, 42, 180, 0, 62, 28, 46, 172]
abbrev dktX5_taken_1 : List UInt8 := dkwX5_taken_1 ++ []
def dkwX5_taken_0 : List UInt8 := [42, 27, 182, 0, 234, 153, 0, 11, 42, 28, 182, 0, 110, 154, 0, 10, 42, 16, 254, 182, 0, 96, 172, 42]
abbrev dktX5_taken_0 : List UInt8 := dkwX5_taken_0 ++ dktX5_taken_1
theorem dksX5_taken_0 : cX5_taken.data.toList.drop 0 = dktX5_taken_0 := by decide +kernel
theorem dksX5_taken_1 : cX5_taken.data.toList.drop 24 = dktX5_taken_1 := dk_seg dksX5_taken_0 24 rfl rfl
theorem dX5_taken_0 : decode cX5_taken 0 = .ok (.aload_n 0, 1) := dk_42 (dk_at dksX5_taken_0 0 rfl rfl)
theorem dX5_taken_1 : decode cX5_taken 1 = .ok (.iload_n 1, 1) := dk_27 (dk_at dksX5_taken_0 1 rfl rfl)
theorem dX5_taken_2 : decode cX5_taken 2 = .ok (.invokevirtual 234, 3) := dk_182 0 234 (dk_at dksX5_taken_0 2 rfl rfl)
theorem dX5_taken_5 : decode cX5_taken 5 = .ok (.ifCond .eq 11, 3) := dk_153 0 11 (dk_at dksX5_taken_0 5 rfl rfl)
theorem dX5_taken_8 : decode cX5_taken 8 = .ok (.aload_n 0, 1) := dk_42 (dk_at dksX5_taken_0 8 rfl rfl)
theorem dX5_taken_9 : decode cX5_taken 9 = .ok (.iload_n 2, 1) := dk_28 (dk_at dksX5_taken_0 9 rfl rfl)
theorem dX5_taken_10 : decode cX5_taken 10 = .ok (.invokevirtual 110, 3) := dk_182 0 110 (dk_at dksX5_taken_0 10 rfl rfl)
theorem dX5_taken_13 : decode cX5_taken 13 = .ok (.ifCond .ne 10, 3) := dk_154 0 10 (dk_at dksX5_taken_0 13 rfl rfl)
theorem dX5_taken_16 : decode cX5_taken 16 = .ok (.aload_n 0, 1) := dk_42 (dk_at dksX5_taken_0 16 rfl rfl)
theorem dX5_taken_17 : decode cX5_taken 17 = .ok (.bipush (-2), 2) := dk_16 254 (dk_at dksX5_taken_0 17 rfl rfl)
theorem dX5_taken_19 : decode cX5_taken 19 = .ok (.invokevirtual 96, 3) := dk_182 0 96 (dk_at dksX5_taken_0 19 rfl rfl)
theorem dX5_taken_22 : decode cX5_taken 22 = .ok (.ireturn, 1) := dk_172 (dk_at dksX5_taken_0 22 rfl rfl)
theorem dX5_taken_23 : decode cX5_taken 23 = .ok (.aload_n 0, 1) := dk_42 (dk_at dksX5_taken_0 23 rfl rfl)
theorem dX5_taken_24 : decode cX5_taken 24 = .ok (.iload_n 1, 1) := dk_27 (dk_at dksX5_taken_1 0 rfl rfl)
theorem dX5_taken_25 : decode cX5_taken 25 = .ok (.invokevirtual 117, 3) := dk_182 0 117 (dk_at dksX5_taken_1 1 rfl rfl)
theorem dX5_taken_28 : decode cX5_taken 28 = .ok (.aload_n 0, 1) := dk_42 (dk_at dksX5_taken_1 4 rfl rfl)
theorem dX5_taken_29 : decode cX5_taken 29 = .ok (.getfield 62, 3) := dk_180 0 62 (dk_at dksX5_taken_1 5 rfl rfl)
theorem dX5_taken_32 : decode cX5_taken 32 = .ok (.iload_n 2, 1) := dk_28 (dk_at dksX5_taken_1 8 rfl rfl)
theorem dX5_taken_33 : decode cX5_taken 33 = .ok (.iaload, 1) := dk_46 (dk_at dksX5_taken_1 9 rfl rfl)
theorem dX5_taken_34 : decode cX5_taken 34 = .ok (.ireturn, 1) := dk_172 (dk_at dksX5_taken_1 10 rfl rfl)
abbrev cX5_glad : ByteArray := prog_17_method_54_code
def yX5_glad : MethodName := ⟨RX5, "glad", "(II)I"⟩
def dkwX5_glad_3 : List UInt8 := [132, 4, 1, 132, 5, 1, 167, 255, 222, 21, 4, 172]
abbrev dktX5_glad_3 : List UInt8 := dkwX5_glad_3 ++ []
def dkwX5_glad_2 : List UInt8 := [162, 0, 31, 27, 21, 5, 184, 0, 194, 153, 0, 16, 42, 180, 0, 62, 21, 5, 46, 154, 0, 6]
abbrev dktX5_glad_2 : List UInt8 := dkwX5_glad_2 ++ dktX5_glad_3
def dkwX5_glad_1 : List UInt8 := [42, 27, 182, 0, 240, 62, 28, 154, 0, 5, 29, 172, 3, 54, 4, 3, 54, 5, 21, 5, 42, 180, 0, 89]
abbrev dktX5_glad_1 : List UInt8 := dkwX5_glad_1 ++ dktX5_glad_2
def dkwX5_glad_0 : List UInt8 := [42, 27, 182, 0, 234, 153, 0, 12, 28, 3, 4, 184, 0, 85, 154, 0, 10, 42, 16, 254, 182, 0, 96, 172]
abbrev dktX5_glad_0 : List UInt8 := dkwX5_glad_0 ++ dktX5_glad_1
theorem dksX5_glad_0 : cX5_glad.data.toList.drop 0 = dktX5_glad_0 := by decide +kernel
theorem dksX5_glad_1 : cX5_glad.data.toList.drop 24 = dktX5_glad_1 := dk_seg dksX5_glad_0 24 rfl rfl
theorem dksX5_glad_2 : cX5_glad.data.toList.drop 48 = dktX5_glad_2 := dk_seg dksX5_glad_1 24 rfl rfl
theorem dksX5_glad_3 : cX5_glad.data.toList.drop 70 = dktX5_glad_3 := dk_seg dksX5_glad_2 22 rfl rfl
theorem dX5_glad_0 : decode cX5_glad 0 = .ok (.aload_n 0, 1) := dk_42 (dk_at dksX5_glad_0 0 rfl rfl)
theorem dX5_glad_1 : decode cX5_glad 1 = .ok (.iload_n 1, 1) := dk_27 (dk_at dksX5_glad_0 1 rfl rfl)
theorem dX5_glad_2 : decode cX5_glad 2 = .ok (.invokevirtual 234, 3) := dk_182 0 234 (dk_at dksX5_glad_0 2 rfl rfl)
theorem dX5_glad_5 : decode cX5_glad 5 = .ok (.ifCond .eq 12, 3) := dk_153 0 12 (dk_at dksX5_glad_0 5 rfl rfl)
theorem dX5_glad_8 : decode cX5_glad 8 = .ok (.iload_n 2, 1) := dk_28 (dk_at dksX5_glad_0 8 rfl rfl)
theorem dX5_glad_9 : decode cX5_glad 9 = .ok (.iconst 0, 1) := dk_3 (dk_at dksX5_glad_0 9 rfl rfl)
theorem dX5_glad_10 : decode cX5_glad 10 = .ok (.iconst 1, 1) := dk_4 (dk_at dksX5_glad_0 10 rfl rfl)
theorem dX5_glad_11 : decode cX5_glad 11 = .ok (.invokestatic 85, 3) := dk_184 0 85 (dk_at dksX5_glad_0 11 rfl rfl)
theorem dX5_glad_14 : decode cX5_glad 14 = .ok (.ifCond .ne 10, 3) := dk_154 0 10 (dk_at dksX5_glad_0 14 rfl rfl)
theorem dX5_glad_17 : decode cX5_glad 17 = .ok (.aload_n 0, 1) := dk_42 (dk_at dksX5_glad_0 17 rfl rfl)
theorem dX5_glad_18 : decode cX5_glad 18 = .ok (.bipush (-2), 2) := dk_16 254 (dk_at dksX5_glad_0 18 rfl rfl)
theorem dX5_glad_20 : decode cX5_glad 20 = .ok (.invokevirtual 96, 3) := dk_182 0 96 (dk_at dksX5_glad_0 20 rfl rfl)
theorem dX5_glad_23 : decode cX5_glad 23 = .ok (.ireturn, 1) := dk_172 (dk_at dksX5_glad_0 23 rfl rfl)
theorem dX5_glad_24 : decode cX5_glad 24 = .ok (.aload_n 0, 1) := dk_42 (dk_at dksX5_glad_1 0 rfl rfl)
theorem dX5_glad_25 : decode cX5_glad 25 = .ok (.iload_n 1, 1) := dk_27 (dk_at dksX5_glad_1 1 rfl rfl)
theorem dX5_glad_26 : decode cX5_glad 26 = .ok (.invokevirtual 240, 3) := dk_182 0 240 (dk_at dksX5_glad_1 2 rfl rfl)
theorem dX5_glad_29 : decode cX5_glad 29 = .ok (.istore_n 3, 1) := dk_62 (dk_at dksX5_glad_1 5 rfl rfl)
theorem dX5_glad_30 : decode cX5_glad 30 = .ok (.iload_n 2, 1) := dk_28 (dk_at dksX5_glad_1 6 rfl rfl)
theorem dX5_glad_31 : decode cX5_glad 31 = .ok (.ifCond .ne 5, 3) := dk_154 0 5 (dk_at dksX5_glad_1 7 rfl rfl)
theorem dX5_glad_34 : decode cX5_glad 34 = .ok (.iload_n 3, 1) := dk_29 (dk_at dksX5_glad_1 10 rfl rfl)
theorem dX5_glad_35 : decode cX5_glad 35 = .ok (.ireturn, 1) := dk_172 (dk_at dksX5_glad_1 11 rfl rfl)
theorem dX5_glad_36 : decode cX5_glad 36 = .ok (.iconst 0, 1) := dk_3 (dk_at dksX5_glad_1 12 rfl rfl)
theorem dX5_glad_37 : decode cX5_glad 37 = .ok (.istore 4, 2) := dk_54 4 (dk_at dksX5_glad_1 13 rfl rfl)
theorem dX5_glad_39 : decode cX5_glad 39 = .ok (.iconst 0, 1) := dk_3 (dk_at dksX5_glad_1 15 rfl rfl)
theorem dX5_glad_40 : decode cX5_glad 40 = .ok (.istore 5, 2) := dk_54 5 (dk_at dksX5_glad_1 16 rfl rfl)
theorem dX5_glad_42 : decode cX5_glad 42 = .ok (.iload 5, 2) := dk_21 5 (dk_at dksX5_glad_1 18 rfl rfl)
theorem dX5_glad_44 : decode cX5_glad 44 = .ok (.aload_n 0, 1) := dk_42 (dk_at dksX5_glad_1 20 rfl rfl)
theorem dX5_glad_45 : decode cX5_glad 45 = .ok (.getfield 89, 3) := dk_180 0 89 (dk_at dksX5_glad_1 21 rfl rfl)
theorem dX5_glad_48 : decode cX5_glad 48 = .ok (.if_icmp .ge 31, 3) := dk_162 0 31 (dk_at dksX5_glad_2 0 rfl rfl)
theorem dX5_glad_51 : decode cX5_glad 51 = .ok (.iload_n 1, 1) := dk_27 (dk_at dksX5_glad_2 3 rfl rfl)
theorem dX5_glad_52 : decode cX5_glad 52 = .ok (.iload 5, 2) := dk_21 5 (dk_at dksX5_glad_2 4 rfl rfl)
theorem dX5_glad_54 : decode cX5_glad 54 = .ok (.invokestatic 194, 3) := dk_184 0 194 (dk_at dksX5_glad_2 6 rfl rfl)
theorem dX5_glad_57 : decode cX5_glad 57 = .ok (.ifCond .eq 16, 3) := dk_153 0 16 (dk_at dksX5_glad_2 9 rfl rfl)
theorem dX5_glad_60 : decode cX5_glad 60 = .ok (.aload_n 0, 1) := dk_42 (dk_at dksX5_glad_2 12 rfl rfl)
theorem dX5_glad_61 : decode cX5_glad 61 = .ok (.getfield 62, 3) := dk_180 0 62 (dk_at dksX5_glad_2 13 rfl rfl)
theorem dX5_glad_64 : decode cX5_glad 64 = .ok (.iload 5, 2) := dk_21 5 (dk_at dksX5_glad_2 16 rfl rfl)
theorem dX5_glad_66 : decode cX5_glad 66 = .ok (.iaload, 1) := dk_46 (dk_at dksX5_glad_2 18 rfl rfl)
theorem dX5_glad_67 : decode cX5_glad 67 = .ok (.ifCond .ne 6, 3) := dk_154 0 6 (dk_at dksX5_glad_2 19 rfl rfl)
theorem dX5_glad_70 : decode cX5_glad 70 = .ok (.iinc 4 1, 3) := dk_132 4 1 (dk_at dksX5_glad_3 0 rfl rfl)
theorem dX5_glad_73 : decode cX5_glad 73 = .ok (.iinc 5 1, 3) := dk_132 5 1 (dk_at dksX5_glad_3 3 rfl rfl)
theorem dX5_glad_76 : decode cX5_glad 76 = .ok (.goto (-34), 3) := dk_167 255 222 (dk_at dksX5_glad_3 6 rfl rfl)
theorem dX5_glad_79 : decode cX5_glad 79 = .ok (.iload 4, 2) := dk_21 4 (dk_at dksX5_glad_3 9 rfl rfl)
theorem dX5_glad_81 : decode cX5_glad 81 = .ok (.ireturn, 1) := dk_172 (dk_at dksX5_glad_3 11 rfl rfl)
abbrev cX5_gladOf : ByteArray := prog_17_method_51_code
def yX5_gladOf : MethodName := ⟨RX5, "gladOf", "(I)I"⟩
def dkwX5_gladOf_1 : List UInt8 := [153, 0, 14, 42, 29, 182, 0, 231, 153, 0, 6, 132, 2, 1, 132, 3, 1, 167, 255, 226, 28, 172]
abbrev dktX5_gladOf_1 : List UInt8 := dkwX5_gladOf_1 ++ []
def dkwX5_gladOf_0 : List UInt8 := [42, 27, 182, 0, 117, 3, 61, 3, 62, 29, 42, 180, 0, 89, 162, 0, 28, 27, 29, 184, 0, 194]
abbrev dktX5_gladOf_0 : List UInt8 := dkwX5_gladOf_0 ++ dktX5_gladOf_1
theorem dksX5_gladOf_0 : cX5_gladOf.data.toList.drop 0 = dktX5_gladOf_0 := by decide +kernel
theorem dksX5_gladOf_1 : cX5_gladOf.data.toList.drop 22 = dktX5_gladOf_1 := dk_seg dksX5_gladOf_0 22 rfl rfl
theorem dX5_gladOf_0 : decode cX5_gladOf 0 = .ok (.aload_n 0, 1) := dk_42 (dk_at dksX5_gladOf_0 0 rfl rfl)
theorem dX5_gladOf_1 : decode cX5_gladOf 1 = .ok (.iload_n 1, 1) := dk_27 (dk_at dksX5_gladOf_0 1 rfl rfl)
theorem dX5_gladOf_2 : decode cX5_gladOf 2 = .ok (.invokevirtual 117, 3) := dk_182 0 117 (dk_at dksX5_gladOf_0 2 rfl rfl)
theorem dX5_gladOf_5 : decode cX5_gladOf 5 = .ok (.iconst 0, 1) := dk_3 (dk_at dksX5_gladOf_0 5 rfl rfl)
theorem dX5_gladOf_6 : decode cX5_gladOf 6 = .ok (.istore_n 2, 1) := dk_61 (dk_at dksX5_gladOf_0 6 rfl rfl)
theorem dX5_gladOf_7 : decode cX5_gladOf 7 = .ok (.iconst 0, 1) := dk_3 (dk_at dksX5_gladOf_0 7 rfl rfl)
theorem dX5_gladOf_8 : decode cX5_gladOf 8 = .ok (.istore_n 3, 1) := dk_62 (dk_at dksX5_gladOf_0 8 rfl rfl)
theorem dX5_gladOf_9 : decode cX5_gladOf 9 = .ok (.iload_n 3, 1) := dk_29 (dk_at dksX5_gladOf_0 9 rfl rfl)
theorem dX5_gladOf_10 : decode cX5_gladOf 10 = .ok (.aload_n 0, 1) := dk_42 (dk_at dksX5_gladOf_0 10 rfl rfl)
theorem dX5_gladOf_11 : decode cX5_gladOf 11 = .ok (.getfield 89, 3) := dk_180 0 89 (dk_at dksX5_gladOf_0 11 rfl rfl)
theorem dX5_gladOf_14 : decode cX5_gladOf 14 = .ok (.if_icmp .ge 28, 3) := dk_162 0 28 (dk_at dksX5_gladOf_0 14 rfl rfl)
theorem dX5_gladOf_17 : decode cX5_gladOf 17 = .ok (.iload_n 1, 1) := dk_27 (dk_at dksX5_gladOf_0 17 rfl rfl)
theorem dX5_gladOf_18 : decode cX5_gladOf 18 = .ok (.iload_n 3, 1) := dk_29 (dk_at dksX5_gladOf_0 18 rfl rfl)
theorem dX5_gladOf_19 : decode cX5_gladOf 19 = .ok (.invokestatic 194, 3) := dk_184 0 194 (dk_at dksX5_gladOf_0 19 rfl rfl)
theorem dX5_gladOf_22 : decode cX5_gladOf 22 = .ok (.ifCond .eq 14, 3) := dk_153 0 14 (dk_at dksX5_gladOf_1 0 rfl rfl)
theorem dX5_gladOf_25 : decode cX5_gladOf 25 = .ok (.aload_n 0, 1) := dk_42 (dk_at dksX5_gladOf_1 3 rfl rfl)
theorem dX5_gladOf_26 : decode cX5_gladOf 26 = .ok (.iload_n 3, 1) := dk_29 (dk_at dksX5_gladOf_1 4 rfl rfl)
theorem dX5_gladOf_27 : decode cX5_gladOf 27 = .ok (.invokevirtual 231, 3) := dk_182 0 231 (dk_at dksX5_gladOf_1 5 rfl rfl)
theorem dX5_gladOf_30 : decode cX5_gladOf 30 = .ok (.ifCond .eq 6, 3) := dk_153 0 6 (dk_at dksX5_gladOf_1 8 rfl rfl)
theorem dX5_gladOf_33 : decode cX5_gladOf 33 = .ok (.iinc 2 1, 3) := dk_132 2 1 (dk_at dksX5_gladOf_1 11 rfl rfl)
theorem dX5_gladOf_36 : decode cX5_gladOf 36 = .ok (.iinc 3 1, 3) := dk_132 3 1 (dk_at dksX5_gladOf_1 14 rfl rfl)
theorem dX5_gladOf_39 : decode cX5_gladOf 39 = .ok (.goto (-30), 3) := dk_167 255 226 (dk_at dksX5_gladOf_1 17 rfl rfl)
theorem dX5_gladOf_42 : decode cX5_gladOf 42 = .ok (.iload_n 2, 1) := dk_28 (dk_at dksX5_gladOf_1 20 rfl rfl)
theorem dX5_gladOf_43 : decode cX5_gladOf 43 = .ok (.ireturn, 1) := dk_172 (dk_at dksX5_gladOf_1 21 rfl rfl)
abbrev cX5_isGlad : ByteArray := prog_17_method_50_code
def yX5_isGlad : MethodName := ⟨RX5, "isGlad", "(I)Z"⟩
def dkwX5_isGlad_1 : List UInt8 := [180, 0, 9, 28, 46, 42, 180, 0, 16, 27, 46, 160, 0, 5, 4, 172, 132, 2, 1, 167, 255, 217, 3, 172]
abbrev dktX5_isGlad_1 : List UInt8 := dkwX5_isGlad_1 ++ []
def dkwX5_isGlad_0 : List UInt8 := [3, 61, 28, 16, 12, 162, 0, 39, 42, 180, 0, 62, 27, 46, 28, 184, 0, 194, 153, 0, 20, 42]
abbrev dktX5_isGlad_0 : List UInt8 := dkwX5_isGlad_0 ++ dktX5_isGlad_1
theorem dksX5_isGlad_0 : cX5_isGlad.data.toList.drop 0 = dktX5_isGlad_0 := by decide +kernel
theorem dksX5_isGlad_1 : cX5_isGlad.data.toList.drop 22 = dktX5_isGlad_1 := dk_seg dksX5_isGlad_0 22 rfl rfl
theorem dX5_isGlad_0 : decode cX5_isGlad 0 = .ok (.iconst 0, 1) := dk_3 (dk_at dksX5_isGlad_0 0 rfl rfl)
theorem dX5_isGlad_1 : decode cX5_isGlad 1 = .ok (.istore_n 2, 1) := dk_61 (dk_at dksX5_isGlad_0 1 rfl rfl)
theorem dX5_isGlad_2 : decode cX5_isGlad 2 = .ok (.iload_n 2, 1) := dk_28 (dk_at dksX5_isGlad_0 2 rfl rfl)
theorem dX5_isGlad_3 : decode cX5_isGlad 3 = .ok (.bipush 12, 2) := dk_16 12 (dk_at dksX5_isGlad_0 3 rfl rfl)
theorem dX5_isGlad_5 : decode cX5_isGlad 5 = .ok (.if_icmp .ge 39, 3) := dk_162 0 39 (dk_at dksX5_isGlad_0 5 rfl rfl)
theorem dX5_isGlad_8 : decode cX5_isGlad 8 = .ok (.aload_n 0, 1) := dk_42 (dk_at dksX5_isGlad_0 8 rfl rfl)
theorem dX5_isGlad_9 : decode cX5_isGlad 9 = .ok (.getfield 62, 3) := dk_180 0 62 (dk_at dksX5_isGlad_0 9 rfl rfl)
theorem dX5_isGlad_12 : decode cX5_isGlad 12 = .ok (.iload_n 1, 1) := dk_27 (dk_at dksX5_isGlad_0 12 rfl rfl)
theorem dX5_isGlad_13 : decode cX5_isGlad 13 = .ok (.iaload, 1) := dk_46 (dk_at dksX5_isGlad_0 13 rfl rfl)
theorem dX5_isGlad_14 : decode cX5_isGlad 14 = .ok (.iload_n 2, 1) := dk_28 (dk_at dksX5_isGlad_0 14 rfl rfl)
theorem dX5_isGlad_15 : decode cX5_isGlad 15 = .ok (.invokestatic 194, 3) := dk_184 0 194 (dk_at dksX5_isGlad_0 15 rfl rfl)
theorem dX5_isGlad_18 : decode cX5_isGlad 18 = .ok (.ifCond .eq 20, 3) := dk_153 0 20 (dk_at dksX5_isGlad_0 18 rfl rfl)
theorem dX5_isGlad_21 : decode cX5_isGlad 21 = .ok (.aload_n 0, 1) := dk_42 (dk_at dksX5_isGlad_0 21 rfl rfl)
theorem dX5_isGlad_22 : decode cX5_isGlad 22 = .ok (.getfield 9, 3) := dk_180 0 9 (dk_at dksX5_isGlad_1 0 rfl rfl)
theorem dX5_isGlad_25 : decode cX5_isGlad 25 = .ok (.iload_n 2, 1) := dk_28 (dk_at dksX5_isGlad_1 3 rfl rfl)
theorem dX5_isGlad_26 : decode cX5_isGlad 26 = .ok (.iaload, 1) := dk_46 (dk_at dksX5_isGlad_1 4 rfl rfl)
theorem dX5_isGlad_27 : decode cX5_isGlad 27 = .ok (.aload_n 0, 1) := dk_42 (dk_at dksX5_isGlad_1 5 rfl rfl)
theorem dX5_isGlad_28 : decode cX5_isGlad 28 = .ok (.getfield 16, 3) := dk_180 0 16 (dk_at dksX5_isGlad_1 6 rfl rfl)
theorem dX5_isGlad_31 : decode cX5_isGlad 31 = .ok (.iload_n 1, 1) := dk_27 (dk_at dksX5_isGlad_1 9 rfl rfl)
theorem dX5_isGlad_32 : decode cX5_isGlad 32 = .ok (.iaload, 1) := dk_46 (dk_at dksX5_isGlad_1 10 rfl rfl)
theorem dX5_isGlad_33 : decode cX5_isGlad 33 = .ok (.if_icmp .ne 5, 3) := dk_160 0 5 (dk_at dksX5_isGlad_1 11 rfl rfl)
theorem dX5_isGlad_36 : decode cX5_isGlad 36 = .ok (.iconst 1, 1) := dk_4 (dk_at dksX5_isGlad_1 14 rfl rfl)
theorem dX5_isGlad_37 : decode cX5_isGlad 37 = .ok (.ireturn, 1) := dk_172 (dk_at dksX5_isGlad_1 15 rfl rfl)
theorem dX5_isGlad_38 : decode cX5_isGlad 38 = .ok (.iinc 2 1, 3) := dk_132 2 1 (dk_at dksX5_isGlad_1 16 rfl rfl)
theorem dX5_isGlad_41 : decode cX5_isGlad 41 = .ok (.goto (-39), 3) := dk_167 255 217 (dk_at dksX5_isGlad_1 19 rfl rfl)
theorem dX5_isGlad_44 : decode cX5_isGlad 44 = .ok (.iconst 0, 1) := dk_3 (dk_at dksX5_isGlad_1 22 rfl rfl)
theorem dX5_isGlad_45 : decode cX5_isGlad 45 = .ok (.ireturn, 1) := dk_172 (dk_at dksX5_isGlad_1 23 rfl rfl)
abbrev cX5_order : ByteArray := prog_17_method_55_code
def yX5_order : MethodName := ⟨RX5, "order", "(II)I"⟩
def dkwX5_order_1 : List UInt8 := [16, 254, 182, 0, 96, 172, 42, 27, 182, 0, 222, 42, 180, 0, 59, 28, 46, 172]
abbrev dktX5_order_1 : List UInt8 := dkwX5_order_1 ++ []
def dkwX5_order_0 : List UInt8 := [42, 27, 182, 0, 234, 153, 0, 17, 28, 3, 27, 184, 0, 243, 4, 100, 184, 0, 85, 154, 0, 10, 42]
abbrev dktX5_order_0 : List UInt8 := dkwX5_order_0 ++ dktX5_order_1
theorem dksX5_order_0 : cX5_order.data.toList.drop 0 = dktX5_order_0 := by decide +kernel
theorem dksX5_order_1 : cX5_order.data.toList.drop 23 = dktX5_order_1 := dk_seg dksX5_order_0 23 rfl rfl
theorem dX5_order_0 : decode cX5_order 0 = .ok (.aload_n 0, 1) := dk_42 (dk_at dksX5_order_0 0 rfl rfl)
theorem dX5_order_1 : decode cX5_order 1 = .ok (.iload_n 1, 1) := dk_27 (dk_at dksX5_order_0 1 rfl rfl)
theorem dX5_order_2 : decode cX5_order 2 = .ok (.invokevirtual 234, 3) := dk_182 0 234 (dk_at dksX5_order_0 2 rfl rfl)
theorem dX5_order_5 : decode cX5_order 5 = .ok (.ifCond .eq 17, 3) := dk_153 0 17 (dk_at dksX5_order_0 5 rfl rfl)
theorem dX5_order_8 : decode cX5_order 8 = .ok (.iload_n 2, 1) := dk_28 (dk_at dksX5_order_0 8 rfl rfl)
theorem dX5_order_9 : decode cX5_order 9 = .ok (.iconst 0, 1) := dk_3 (dk_at dksX5_order_0 9 rfl rfl)
theorem dX5_order_10 : decode cX5_order 10 = .ok (.iload_n 1, 1) := dk_27 (dk_at dksX5_order_0 10 rfl rfl)
theorem dX5_order_11 : decode cX5_order 11 = .ok (.invokestatic 243, 3) := dk_184 0 243 (dk_at dksX5_order_0 11 rfl rfl)
theorem dX5_order_14 : decode cX5_order 14 = .ok (.iconst 1, 1) := dk_4 (dk_at dksX5_order_0 14 rfl rfl)
theorem dX5_order_15 : decode cX5_order 15 = .ok (.isub, 1) := dk_100 (dk_at dksX5_order_0 15 rfl rfl)
theorem dX5_order_16 : decode cX5_order 16 = .ok (.invokestatic 85, 3) := dk_184 0 85 (dk_at dksX5_order_0 16 rfl rfl)
theorem dX5_order_19 : decode cX5_order 19 = .ok (.ifCond .ne 10, 3) := dk_154 0 10 (dk_at dksX5_order_0 19 rfl rfl)
theorem dX5_order_22 : decode cX5_order 22 = .ok (.aload_n 0, 1) := dk_42 (dk_at dksX5_order_0 22 rfl rfl)
theorem dX5_order_23 : decode cX5_order 23 = .ok (.bipush (-2), 2) := dk_16 254 (dk_at dksX5_order_1 0 rfl rfl)
theorem dX5_order_25 : decode cX5_order 25 = .ok (.invokevirtual 96, 3) := dk_182 0 96 (dk_at dksX5_order_1 2 rfl rfl)
theorem dX5_order_28 : decode cX5_order 28 = .ok (.ireturn, 1) := dk_172 (dk_at dksX5_order_1 5 rfl rfl)
theorem dX5_order_29 : decode cX5_order 29 = .ok (.aload_n 0, 1) := dk_42 (dk_at dksX5_order_1 6 rfl rfl)
theorem dX5_order_30 : decode cX5_order 30 = .ok (.iload_n 1, 1) := dk_27 (dk_at dksX5_order_1 7 rfl rfl)
theorem dX5_order_31 : decode cX5_order 31 = .ok (.invokevirtual 222, 3) := dk_182 0 222 (dk_at dksX5_order_1 8 rfl rfl)
theorem dX5_order_34 : decode cX5_order 34 = .ok (.aload_n 0, 1) := dk_42 (dk_at dksX5_order_1 11 rfl rfl)
theorem dX5_order_35 : decode cX5_order 35 = .ok (.getfield 59, 3) := dk_180 0 59 (dk_at dksX5_order_1 12 rfl rfl)
theorem dX5_order_38 : decode cX5_order 38 = .ok (.iload_n 2, 1) := dk_28 (dk_at dksX5_order_1 15 rfl rfl)
theorem dX5_order_39 : decode cX5_order 39 = .ok (.iaload, 1) := dk_46 (dk_at dksX5_order_1 16 rfl rfl)
theorem dX5_order_40 : decode cX5_order 40 = .ok (.ireturn, 1) := dk_172 (dk_at dksX5_order_1 17 rfl rfl)
abbrev cX5_away : ByteArray := prog_17_method_56_code
def yX5_away : MethodName := ⟨RX5, "away", "(II)I"⟩
def dkwX5_away_5 : List UInt8 := [167, 0, 8, 21, 4, 184, 0, 243, 172]
abbrev dktX5_away_5 : List UInt8 := dkwX5_away_5 ++ []
def dkwX5_away_4 : List UInt8 := [21, 5, 54, 4, 132, 5, 1, 167, 255, 194, 21, 4, 2, 159, 0, 8, 28, 4, 160, 0, 8, 21, 4]
abbrev dktX5_away_4 : List UInt8 := dkwX5_away_4 ++ dktX5_away_5
def dkwX5_away_3 : List UInt8 := [161, 0, 6, 167, 0, 25, 42, 29, 21, 5, 2, 130, 126, 182, 0, 117, 42, 27, 182, 0, 231, 153, 0, 7]
abbrev dktX5_away_3 : List UInt8 := dkwX5_away_3 ++ dktX5_away_4
def dkwX5_away_2 : List UInt8 := [184, 0, 194, 154, 0, 47, 21, 4, 2, 159, 0, 19, 21, 5, 184, 0, 243, 21, 4, 184, 0, 243]
abbrev dktX5_away_2 : List UInt8 := dkwX5_away_2 ++ dktX5_away_3
def dkwX5_away_1 : List UInt8 := [4, 42, 180, 0, 89, 120, 4, 100, 62, 2, 54, 4, 3, 54, 5, 21, 5, 29, 163, 0, 62, 21, 5, 27]
abbrev dktX5_away_1 : List UInt8 := dkwX5_away_1 ++ dktX5_away_2
def dkwX5_away_0 : List UInt8 := [42, 27, 182, 0, 110, 153, 0, 12, 28, 3, 4, 184, 0, 85, 154, 0, 10, 42, 16, 254, 182, 0, 96, 172]
abbrev dktX5_away_0 : List UInt8 := dkwX5_away_0 ++ dktX5_away_1
theorem dksX5_away_0 : cX5_away.data.toList.drop 0 = dktX5_away_0 := by decide +kernel
theorem dksX5_away_1 : cX5_away.data.toList.drop 24 = dktX5_away_1 := dk_seg dksX5_away_0 24 rfl rfl
theorem dksX5_away_2 : cX5_away.data.toList.drop 48 = dktX5_away_2 := dk_seg dksX5_away_1 24 rfl rfl
theorem dksX5_away_3 : cX5_away.data.toList.drop 70 = dktX5_away_3 := dk_seg dksX5_away_2 22 rfl rfl
theorem dksX5_away_4 : cX5_away.data.toList.drop 94 = dktX5_away_4 := dk_seg dksX5_away_3 24 rfl rfl
theorem dksX5_away_5 : cX5_away.data.toList.drop 117 = dktX5_away_5 := dk_seg dksX5_away_4 23 rfl rfl
theorem dX5_away_0 : decode cX5_away 0 = .ok (.aload_n 0, 1) := dk_42 (dk_at dksX5_away_0 0 rfl rfl)
theorem dX5_away_1 : decode cX5_away 1 = .ok (.iload_n 1, 1) := dk_27 (dk_at dksX5_away_0 1 rfl rfl)
theorem dX5_away_2 : decode cX5_away 2 = .ok (.invokevirtual 110, 3) := dk_182 0 110 (dk_at dksX5_away_0 2 rfl rfl)
theorem dX5_away_5 : decode cX5_away 5 = .ok (.ifCond .eq 12, 3) := dk_153 0 12 (dk_at dksX5_away_0 5 rfl rfl)
theorem dX5_away_8 : decode cX5_away 8 = .ok (.iload_n 2, 1) := dk_28 (dk_at dksX5_away_0 8 rfl rfl)
theorem dX5_away_9 : decode cX5_away 9 = .ok (.iconst 0, 1) := dk_3 (dk_at dksX5_away_0 9 rfl rfl)
theorem dX5_away_10 : decode cX5_away 10 = .ok (.iconst 1, 1) := dk_4 (dk_at dksX5_away_0 10 rfl rfl)
theorem dX5_away_11 : decode cX5_away 11 = .ok (.invokestatic 85, 3) := dk_184 0 85 (dk_at dksX5_away_0 11 rfl rfl)
theorem dX5_away_14 : decode cX5_away 14 = .ok (.ifCond .ne 10, 3) := dk_154 0 10 (dk_at dksX5_away_0 14 rfl rfl)
theorem dX5_away_17 : decode cX5_away 17 = .ok (.aload_n 0, 1) := dk_42 (dk_at dksX5_away_0 17 rfl rfl)
theorem dX5_away_18 : decode cX5_away 18 = .ok (.bipush (-2), 2) := dk_16 254 (dk_at dksX5_away_0 18 rfl rfl)
theorem dX5_away_20 : decode cX5_away 20 = .ok (.invokevirtual 96, 3) := dk_182 0 96 (dk_at dksX5_away_0 20 rfl rfl)
theorem dX5_away_23 : decode cX5_away 23 = .ok (.ireturn, 1) := dk_172 (dk_at dksX5_away_0 23 rfl rfl)
theorem dX5_away_24 : decode cX5_away 24 = .ok (.iconst 1, 1) := dk_4 (dk_at dksX5_away_1 0 rfl rfl)
theorem dX5_away_25 : decode cX5_away 25 = .ok (.aload_n 0, 1) := dk_42 (dk_at dksX5_away_1 1 rfl rfl)
theorem dX5_away_26 : decode cX5_away 26 = .ok (.getfield 89, 3) := dk_180 0 89 (dk_at dksX5_away_1 2 rfl rfl)
theorem dX5_away_29 : decode cX5_away 29 = .ok (.ishl, 1) := dk_120 (dk_at dksX5_away_1 5 rfl rfl)
theorem dX5_away_30 : decode cX5_away 30 = .ok (.iconst 1, 1) := dk_4 (dk_at dksX5_away_1 6 rfl rfl)
theorem dX5_away_31 : decode cX5_away 31 = .ok (.isub, 1) := dk_100 (dk_at dksX5_away_1 7 rfl rfl)
theorem dX5_away_32 : decode cX5_away 32 = .ok (.istore_n 3, 1) := dk_62 (dk_at dksX5_away_1 8 rfl rfl)
theorem dX5_away_33 : decode cX5_away 33 = .ok (.iconst (-1), 1) := dk_2 (dk_at dksX5_away_1 9 rfl rfl)
theorem dX5_away_34 : decode cX5_away 34 = .ok (.istore 4, 2) := dk_54 4 (dk_at dksX5_away_1 10 rfl rfl)
theorem dX5_away_36 : decode cX5_away 36 = .ok (.iconst 0, 1) := dk_3 (dk_at dksX5_away_1 12 rfl rfl)
theorem dX5_away_37 : decode cX5_away 37 = .ok (.istore 5, 2) := dk_54 5 (dk_at dksX5_away_1 13 rfl rfl)
theorem dX5_away_39 : decode cX5_away 39 = .ok (.iload 5, 2) := dk_21 5 (dk_at dksX5_away_1 15 rfl rfl)
theorem dX5_away_41 : decode cX5_away 41 = .ok (.iload_n 3, 1) := dk_29 (dk_at dksX5_away_1 17 rfl rfl)
theorem dX5_away_42 : decode cX5_away 42 = .ok (.if_icmp .gt 62, 3) := dk_163 0 62 (dk_at dksX5_away_1 18 rfl rfl)
theorem dX5_away_45 : decode cX5_away 45 = .ok (.iload 5, 2) := dk_21 5 (dk_at dksX5_away_1 21 rfl rfl)
theorem dX5_away_47 : decode cX5_away 47 = .ok (.iload_n 1, 1) := dk_27 (dk_at dksX5_away_1 23 rfl rfl)
theorem dX5_away_48 : decode cX5_away 48 = .ok (.invokestatic 194, 3) := dk_184 0 194 (dk_at dksX5_away_2 0 rfl rfl)
theorem dX5_away_51 : decode cX5_away 51 = .ok (.ifCond .ne 47, 3) := dk_154 0 47 (dk_at dksX5_away_2 3 rfl rfl)
theorem dX5_away_54 : decode cX5_away 54 = .ok (.iload 4, 2) := dk_21 4 (dk_at dksX5_away_2 6 rfl rfl)
theorem dX5_away_56 : decode cX5_away 56 = .ok (.iconst (-1), 1) := dk_2 (dk_at dksX5_away_2 8 rfl rfl)
theorem dX5_away_57 : decode cX5_away 57 = .ok (.if_icmp .eq 19, 3) := dk_159 0 19 (dk_at dksX5_away_2 9 rfl rfl)
theorem dX5_away_60 : decode cX5_away 60 = .ok (.iload 5, 2) := dk_21 5 (dk_at dksX5_away_2 12 rfl rfl)
theorem dX5_away_62 : decode cX5_away 62 = .ok (.invokestatic 243, 3) := dk_184 0 243 (dk_at dksX5_away_2 14 rfl rfl)
theorem dX5_away_65 : decode cX5_away 65 = .ok (.iload 4, 2) := dk_21 4 (dk_at dksX5_away_2 17 rfl rfl)
theorem dX5_away_67 : decode cX5_away 67 = .ok (.invokestatic 243, 3) := dk_184 0 243 (dk_at dksX5_away_2 19 rfl rfl)
theorem dX5_away_70 : decode cX5_away 70 = .ok (.if_icmp .lt 6, 3) := dk_161 0 6 (dk_at dksX5_away_3 0 rfl rfl)
theorem dX5_away_73 : decode cX5_away 73 = .ok (.goto 25, 3) := dk_167 0 25 (dk_at dksX5_away_3 3 rfl rfl)
theorem dX5_away_76 : decode cX5_away 76 = .ok (.aload_n 0, 1) := dk_42 (dk_at dksX5_away_3 6 rfl rfl)
theorem dX5_away_77 : decode cX5_away 77 = .ok (.iload_n 3, 1) := dk_29 (dk_at dksX5_away_3 7 rfl rfl)
theorem dX5_away_78 : decode cX5_away 78 = .ok (.iload 5, 2) := dk_21 5 (dk_at dksX5_away_3 8 rfl rfl)
theorem dX5_away_80 : decode cX5_away 80 = .ok (.iconst (-1), 1) := dk_2 (dk_at dksX5_away_3 10 rfl rfl)
theorem dX5_away_81 : decode cX5_away 81 = .ok (.ixor, 1) := dk_130 (dk_at dksX5_away_3 11 rfl rfl)
theorem dX5_away_82 : decode cX5_away 82 = .ok (.iand, 1) := dk_126 (dk_at dksX5_away_3 12 rfl rfl)
theorem dX5_away_83 : decode cX5_away 83 = .ok (.invokevirtual 117, 3) := dk_182 0 117 (dk_at dksX5_away_3 13 rfl rfl)
theorem dX5_away_86 : decode cX5_away 86 = .ok (.aload_n 0, 1) := dk_42 (dk_at dksX5_away_3 16 rfl rfl)
theorem dX5_away_87 : decode cX5_away 87 = .ok (.iload_n 1, 1) := dk_27 (dk_at dksX5_away_3 17 rfl rfl)
theorem dX5_away_88 : decode cX5_away 88 = .ok (.invokevirtual 231, 3) := dk_182 0 231 (dk_at dksX5_away_3 18 rfl rfl)
theorem dX5_away_91 : decode cX5_away 91 = .ok (.ifCond .eq 7, 3) := dk_153 0 7 (dk_at dksX5_away_3 21 rfl rfl)
theorem dX5_away_94 : decode cX5_away 94 = .ok (.iload 5, 2) := dk_21 5 (dk_at dksX5_away_4 0 rfl rfl)
theorem dX5_away_96 : decode cX5_away 96 = .ok (.istore 4, 2) := dk_54 4 (dk_at dksX5_away_4 2 rfl rfl)
theorem dX5_away_98 : decode cX5_away 98 = .ok (.iinc 5 1, 3) := dk_132 5 1 (dk_at dksX5_away_4 4 rfl rfl)
theorem dX5_away_101 : decode cX5_away 101 = .ok (.goto (-62), 3) := dk_167 255 194 (dk_at dksX5_away_4 7 rfl rfl)
theorem dX5_away_104 : decode cX5_away 104 = .ok (.iload 4, 2) := dk_21 4 (dk_at dksX5_away_4 10 rfl rfl)
theorem dX5_away_106 : decode cX5_away 106 = .ok (.iconst (-1), 1) := dk_2 (dk_at dksX5_away_4 12 rfl rfl)
theorem dX5_away_107 : decode cX5_away 107 = .ok (.if_icmp .eq 8, 3) := dk_159 0 8 (dk_at dksX5_away_4 13 rfl rfl)
theorem dX5_away_110 : decode cX5_away 110 = .ok (.iload_n 2, 1) := dk_28 (dk_at dksX5_away_4 16 rfl rfl)
theorem dX5_away_111 : decode cX5_away 111 = .ok (.iconst 1, 1) := dk_4 (dk_at dksX5_away_4 17 rfl rfl)
theorem dX5_away_112 : decode cX5_away 112 = .ok (.if_icmp .ne 8, 3) := dk_160 0 8 (dk_at dksX5_away_4 18 rfl rfl)
theorem dX5_away_115 : decode cX5_away 115 = .ok (.iload 4, 2) := dk_21 4 (dk_at dksX5_away_4 21 rfl rfl)
theorem dX5_away_117 : decode cX5_away 117 = .ok (.goto 8, 3) := dk_167 0 8 (dk_at dksX5_away_5 0 rfl rfl)
theorem dX5_away_120 : decode cX5_away 120 = .ok (.iload 4, 2) := dk_21 4 (dk_at dksX5_away_5 3 rfl rfl)
theorem dX5_away_122 : decode cX5_away 122 = .ok (.invokestatic 243, 3) := dk_184 0 243 (dk_at dksX5_away_5 5 rfl rfl)
theorem dX5_away_125 : decode cX5_away 125 = .ok (.ireturn, 1) := dk_172 (dk_at dksX5_away_5 8 rfl rfl)
abbrev cX5_crowd : ByteArray := prog_17_method_57_code
def yX5_crowd : MethodName := ⟨RX5, "crowd", "(II)I"⟩
def dkwX5_crowd_4 : List UInt8 := [21, 4, 167, 0, 4, 29, 172]
abbrev dktX5_crowd_4 : List UInt8 := dkwX5_crowd_4 ++ []
def dkwX5_crowd_3 : List UInt8 := [163, 0, 6, 167, 0, 10, 21, 6, 54, 4, 21, 5, 62, 132, 5, 1, 167, 255, 205, 28, 154, 0, 8]
abbrev dktX5_crowd_3 : List UInt8 := dkwX5_crowd_3 ++ dktX5_crowd_4
def dkwX5_crowd_2 : List UInt8 := [21, 5, 184, 0, 243, 27, 159, 0, 6, 167, 0, 28, 42, 21, 5, 182, 0, 240, 54, 6, 21, 6, 21, 4]
abbrev dktX5_crowd_2 : List UInt8 := dkwX5_crowd_2 ++ dktX5_crowd_3
def dkwX5_crowd_1 : List UInt8 := [182, 0, 96, 172, 2, 62, 2, 54, 4, 3, 54, 5, 21, 5, 4, 42, 180, 0, 89, 120, 162, 0, 46]
abbrev dktX5_crowd_1 : List UInt8 := dkwX5_crowd_1 ++ dktX5_crowd_2
def dkwX5_crowd_0 : List UInt8 := [27, 3, 42, 180, 0, 89, 184, 0, 85, 153, 0, 12, 28, 3, 4, 184, 0, 85, 154, 0, 10, 42, 16, 254]
abbrev dktX5_crowd_0 : List UInt8 := dkwX5_crowd_0 ++ dktX5_crowd_1
theorem dksX5_crowd_0 : cX5_crowd.data.toList.drop 0 = dktX5_crowd_0 := by decide +kernel
theorem dksX5_crowd_1 : cX5_crowd.data.toList.drop 24 = dktX5_crowd_1 := dk_seg dksX5_crowd_0 24 rfl rfl
theorem dksX5_crowd_2 : cX5_crowd.data.toList.drop 47 = dktX5_crowd_2 := dk_seg dksX5_crowd_1 23 rfl rfl
theorem dksX5_crowd_3 : cX5_crowd.data.toList.drop 71 = dktX5_crowd_3 := dk_seg dksX5_crowd_2 24 rfl rfl
theorem dksX5_crowd_4 : cX5_crowd.data.toList.drop 94 = dktX5_crowd_4 := dk_seg dksX5_crowd_3 23 rfl rfl
theorem dX5_crowd_0 : decode cX5_crowd 0 = .ok (.iload_n 1, 1) := dk_27 (dk_at dksX5_crowd_0 0 rfl rfl)
theorem dX5_crowd_1 : decode cX5_crowd 1 = .ok (.iconst 0, 1) := dk_3 (dk_at dksX5_crowd_0 1 rfl rfl)
theorem dX5_crowd_2 : decode cX5_crowd 2 = .ok (.aload_n 0, 1) := dk_42 (dk_at dksX5_crowd_0 2 rfl rfl)
theorem dX5_crowd_3 : decode cX5_crowd 3 = .ok (.getfield 89, 3) := dk_180 0 89 (dk_at dksX5_crowd_0 3 rfl rfl)
theorem dX5_crowd_6 : decode cX5_crowd 6 = .ok (.invokestatic 85, 3) := dk_184 0 85 (dk_at dksX5_crowd_0 6 rfl rfl)
theorem dX5_crowd_9 : decode cX5_crowd 9 = .ok (.ifCond .eq 12, 3) := dk_153 0 12 (dk_at dksX5_crowd_0 9 rfl rfl)
theorem dX5_crowd_12 : decode cX5_crowd 12 = .ok (.iload_n 2, 1) := dk_28 (dk_at dksX5_crowd_0 12 rfl rfl)
theorem dX5_crowd_13 : decode cX5_crowd 13 = .ok (.iconst 0, 1) := dk_3 (dk_at dksX5_crowd_0 13 rfl rfl)
theorem dX5_crowd_14 : decode cX5_crowd 14 = .ok (.iconst 1, 1) := dk_4 (dk_at dksX5_crowd_0 14 rfl rfl)
theorem dX5_crowd_15 : decode cX5_crowd 15 = .ok (.invokestatic 85, 3) := dk_184 0 85 (dk_at dksX5_crowd_0 15 rfl rfl)
theorem dX5_crowd_18 : decode cX5_crowd 18 = .ok (.ifCond .ne 10, 3) := dk_154 0 10 (dk_at dksX5_crowd_0 18 rfl rfl)
theorem dX5_crowd_21 : decode cX5_crowd 21 = .ok (.aload_n 0, 1) := dk_42 (dk_at dksX5_crowd_0 21 rfl rfl)
theorem dX5_crowd_22 : decode cX5_crowd 22 = .ok (.bipush (-2), 2) := dk_16 254 (dk_at dksX5_crowd_0 22 rfl rfl)
theorem dX5_crowd_24 : decode cX5_crowd 24 = .ok (.invokevirtual 96, 3) := dk_182 0 96 (dk_at dksX5_crowd_1 0 rfl rfl)
theorem dX5_crowd_27 : decode cX5_crowd 27 = .ok (.ireturn, 1) := dk_172 (dk_at dksX5_crowd_1 3 rfl rfl)
theorem dX5_crowd_28 : decode cX5_crowd 28 = .ok (.iconst (-1), 1) := dk_2 (dk_at dksX5_crowd_1 4 rfl rfl)
theorem dX5_crowd_29 : decode cX5_crowd 29 = .ok (.istore_n 3, 1) := dk_62 (dk_at dksX5_crowd_1 5 rfl rfl)
theorem dX5_crowd_30 : decode cX5_crowd 30 = .ok (.iconst (-1), 1) := dk_2 (dk_at dksX5_crowd_1 6 rfl rfl)
theorem dX5_crowd_31 : decode cX5_crowd 31 = .ok (.istore 4, 2) := dk_54 4 (dk_at dksX5_crowd_1 7 rfl rfl)
theorem dX5_crowd_33 : decode cX5_crowd 33 = .ok (.iconst 0, 1) := dk_3 (dk_at dksX5_crowd_1 9 rfl rfl)
theorem dX5_crowd_34 : decode cX5_crowd 34 = .ok (.istore 5, 2) := dk_54 5 (dk_at dksX5_crowd_1 10 rfl rfl)
theorem dX5_crowd_36 : decode cX5_crowd 36 = .ok (.iload 5, 2) := dk_21 5 (dk_at dksX5_crowd_1 12 rfl rfl)
theorem dX5_crowd_38 : decode cX5_crowd 38 = .ok (.iconst 1, 1) := dk_4 (dk_at dksX5_crowd_1 14 rfl rfl)
theorem dX5_crowd_39 : decode cX5_crowd 39 = .ok (.aload_n 0, 1) := dk_42 (dk_at dksX5_crowd_1 15 rfl rfl)
theorem dX5_crowd_40 : decode cX5_crowd 40 = .ok (.getfield 89, 3) := dk_180 0 89 (dk_at dksX5_crowd_1 16 rfl rfl)
theorem dX5_crowd_43 : decode cX5_crowd 43 = .ok (.ishl, 1) := dk_120 (dk_at dksX5_crowd_1 19 rfl rfl)
theorem dX5_crowd_44 : decode cX5_crowd 44 = .ok (.if_icmp .ge 46, 3) := dk_162 0 46 (dk_at dksX5_crowd_1 20 rfl rfl)
theorem dX5_crowd_47 : decode cX5_crowd 47 = .ok (.iload 5, 2) := dk_21 5 (dk_at dksX5_crowd_2 0 rfl rfl)
theorem dX5_crowd_49 : decode cX5_crowd 49 = .ok (.invokestatic 243, 3) := dk_184 0 243 (dk_at dksX5_crowd_2 2 rfl rfl)
theorem dX5_crowd_52 : decode cX5_crowd 52 = .ok (.iload_n 1, 1) := dk_27 (dk_at dksX5_crowd_2 5 rfl rfl)
theorem dX5_crowd_53 : decode cX5_crowd 53 = .ok (.if_icmp .eq 6, 3) := dk_159 0 6 (dk_at dksX5_crowd_2 6 rfl rfl)
theorem dX5_crowd_56 : decode cX5_crowd 56 = .ok (.goto 28, 3) := dk_167 0 28 (dk_at dksX5_crowd_2 9 rfl rfl)
theorem dX5_crowd_59 : decode cX5_crowd 59 = .ok (.aload_n 0, 1) := dk_42 (dk_at dksX5_crowd_2 12 rfl rfl)
theorem dX5_crowd_60 : decode cX5_crowd 60 = .ok (.iload 5, 2) := dk_21 5 (dk_at dksX5_crowd_2 13 rfl rfl)
theorem dX5_crowd_62 : decode cX5_crowd 62 = .ok (.invokevirtual 240, 3) := dk_182 0 240 (dk_at dksX5_crowd_2 15 rfl rfl)
theorem dX5_crowd_65 : decode cX5_crowd 65 = .ok (.istore 6, 2) := dk_54 6 (dk_at dksX5_crowd_2 18 rfl rfl)
theorem dX5_crowd_67 : decode cX5_crowd 67 = .ok (.iload 6, 2) := dk_21 6 (dk_at dksX5_crowd_2 20 rfl rfl)
theorem dX5_crowd_69 : decode cX5_crowd 69 = .ok (.iload 4, 2) := dk_21 4 (dk_at dksX5_crowd_2 22 rfl rfl)
theorem dX5_crowd_71 : decode cX5_crowd 71 = .ok (.if_icmp .gt 6, 3) := dk_163 0 6 (dk_at dksX5_crowd_3 0 rfl rfl)
theorem dX5_crowd_74 : decode cX5_crowd 74 = .ok (.goto 10, 3) := dk_167 0 10 (dk_at dksX5_crowd_3 3 rfl rfl)
theorem dX5_crowd_77 : decode cX5_crowd 77 = .ok (.iload 6, 2) := dk_21 6 (dk_at dksX5_crowd_3 6 rfl rfl)
theorem dX5_crowd_79 : decode cX5_crowd 79 = .ok (.istore 4, 2) := dk_54 4 (dk_at dksX5_crowd_3 8 rfl rfl)
theorem dX5_crowd_81 : decode cX5_crowd 81 = .ok (.iload 5, 2) := dk_21 5 (dk_at dksX5_crowd_3 10 rfl rfl)
theorem dX5_crowd_83 : decode cX5_crowd 83 = .ok (.istore_n 3, 1) := dk_62 (dk_at dksX5_crowd_3 12 rfl rfl)
theorem dX5_crowd_84 : decode cX5_crowd 84 = .ok (.iinc 5 1, 3) := dk_132 5 1 (dk_at dksX5_crowd_3 13 rfl rfl)
theorem dX5_crowd_87 : decode cX5_crowd 87 = .ok (.goto (-51), 3) := dk_167 255 205 (dk_at dksX5_crowd_3 16 rfl rfl)
theorem dX5_crowd_90 : decode cX5_crowd 90 = .ok (.iload_n 2, 1) := dk_28 (dk_at dksX5_crowd_3 19 rfl rfl)
theorem dX5_crowd_91 : decode cX5_crowd 91 = .ok (.ifCond .ne 8, 3) := dk_154 0 8 (dk_at dksX5_crowd_3 20 rfl rfl)
theorem dX5_crowd_94 : decode cX5_crowd 94 = .ok (.iload 4, 2) := dk_21 4 (dk_at dksX5_crowd_4 0 rfl rfl)
theorem dX5_crowd_96 : decode cX5_crowd 96 = .ok (.goto 4, 3) := dk_167 0 4 (dk_at dksX5_crowd_4 2 rfl rfl)
theorem dX5_crowd_99 : decode cX5_crowd 99 = .ok (.iload_n 3, 1) := dk_29 (dk_at dksX5_crowd_4 5 rfl rfl)
theorem dX5_crowd_100 : decode cX5_crowd 100 = .ok (.ireturn, 1) := dk_172 (dk_at dksX5_crowd_4 6 rfl rfl)
abbrev cX5_setOut : ByteArray := prog_17_method_59_code
def yX5_setOut : MethodName := ⟨RX5, "setOut", "(II)I"⟩
def dkwX5_setOut_5 : List UInt8 := [161, 0, 12, 42, 16, 251, 182, 0, 96, 167, 0, 9, 42, 180, 0, 78, 28, 46, 172]
abbrev dktX5_setOut_5 : List UInt8 := dkwX5_setOut_5 ++ []
def dkwX5_setOut_4 : List UInt8 := [21, 4, 7, 160, 0, 7, 2, 167, 0, 5, 21, 4, 172, 21, 4, 7, 159, 0, 9, 28, 21, 4]
abbrev dktX5_setOut_4 : List UInt8 := dkwX5_setOut_4 ++ dktX5_setOut_5
def dkwX5_setOut_3 : List UInt8 := [42, 27, 3, 21, 4, 29, 182, 0, 248, 154, 0, 9, 132, 4, 1, 167, 255, 235, 28, 2, 160, 0, 16]
abbrev dktX5_setOut_3 : List UInt8 := dkwX5_setOut_3 ++ dktX5_setOut_4
def dkwX5_setOut_2 : List UInt8 := [180, 0, 16, 21, 4, 46, 120, 128, 62, 132, 4, 1, 167, 255, 223, 3, 54, 4, 21, 4, 7, 162, 0, 21]
abbrev dktX5_setOut_2 : List UInt8 := dkwX5_setOut_2 ++ dktX5_setOut_3
def dkwX5_setOut_1 : List UInt8 := [54, 4, 21, 4, 42, 180, 0, 89, 162, 0, 30, 27, 21, 4, 184, 0, 194, 153, 0, 15, 29, 4, 42]
abbrev dktX5_setOut_1 : List UInt8 := dkwX5_setOut_1 ++ dktX5_setOut_2
def dkwX5_setOut_0 : List UInt8 := [42, 27, 182, 0, 234, 153, 0, 8, 28, 2, 162, 0, 10, 42, 16, 254, 182, 0, 96, 172, 3, 62, 3]
abbrev dktX5_setOut_0 : List UInt8 := dkwX5_setOut_0 ++ dktX5_setOut_1
theorem dksX5_setOut_0 : cX5_setOut.data.toList.drop 0 = dktX5_setOut_0 := by decide +kernel
theorem dksX5_setOut_1 : cX5_setOut.data.toList.drop 23 = dktX5_setOut_1 := dk_seg dksX5_setOut_0 23 rfl rfl
theorem dksX5_setOut_2 : cX5_setOut.data.toList.drop 46 = dktX5_setOut_2 := dk_seg dksX5_setOut_1 23 rfl rfl
theorem dksX5_setOut_3 : cX5_setOut.data.toList.drop 70 = dktX5_setOut_3 := dk_seg dksX5_setOut_2 24 rfl rfl
theorem dksX5_setOut_4 : cX5_setOut.data.toList.drop 93 = dktX5_setOut_4 := dk_seg dksX5_setOut_3 23 rfl rfl
theorem dksX5_setOut_5 : cX5_setOut.data.toList.drop 115 = dktX5_setOut_5 := dk_seg dksX5_setOut_4 22 rfl rfl
theorem dX5_setOut_0 : decode cX5_setOut 0 = .ok (.aload_n 0, 1) := dk_42 (dk_at dksX5_setOut_0 0 rfl rfl)
theorem dX5_setOut_1 : decode cX5_setOut 1 = .ok (.iload_n 1, 1) := dk_27 (dk_at dksX5_setOut_0 1 rfl rfl)
theorem dX5_setOut_2 : decode cX5_setOut 2 = .ok (.invokevirtual 234, 3) := dk_182 0 234 (dk_at dksX5_setOut_0 2 rfl rfl)
theorem dX5_setOut_5 : decode cX5_setOut 5 = .ok (.ifCond .eq 8, 3) := dk_153 0 8 (dk_at dksX5_setOut_0 5 rfl rfl)
theorem dX5_setOut_8 : decode cX5_setOut 8 = .ok (.iload_n 2, 1) := dk_28 (dk_at dksX5_setOut_0 8 rfl rfl)
theorem dX5_setOut_9 : decode cX5_setOut 9 = .ok (.iconst (-1), 1) := dk_2 (dk_at dksX5_setOut_0 9 rfl rfl)
theorem dX5_setOut_10 : decode cX5_setOut 10 = .ok (.if_icmp .ge 10, 3) := dk_162 0 10 (dk_at dksX5_setOut_0 10 rfl rfl)
theorem dX5_setOut_13 : decode cX5_setOut 13 = .ok (.aload_n 0, 1) := dk_42 (dk_at dksX5_setOut_0 13 rfl rfl)
theorem dX5_setOut_14 : decode cX5_setOut 14 = .ok (.bipush (-2), 2) := dk_16 254 (dk_at dksX5_setOut_0 14 rfl rfl)
theorem dX5_setOut_16 : decode cX5_setOut 16 = .ok (.invokevirtual 96, 3) := dk_182 0 96 (dk_at dksX5_setOut_0 16 rfl rfl)
theorem dX5_setOut_19 : decode cX5_setOut 19 = .ok (.ireturn, 1) := dk_172 (dk_at dksX5_setOut_0 19 rfl rfl)
theorem dX5_setOut_20 : decode cX5_setOut 20 = .ok (.iconst 0, 1) := dk_3 (dk_at dksX5_setOut_0 20 rfl rfl)
theorem dX5_setOut_21 : decode cX5_setOut 21 = .ok (.istore_n 3, 1) := dk_62 (dk_at dksX5_setOut_0 21 rfl rfl)
theorem dX5_setOut_22 : decode cX5_setOut 22 = .ok (.iconst 0, 1) := dk_3 (dk_at dksX5_setOut_0 22 rfl rfl)
theorem dX5_setOut_23 : decode cX5_setOut 23 = .ok (.istore 4, 2) := dk_54 4 (dk_at dksX5_setOut_1 0 rfl rfl)
theorem dX5_setOut_25 : decode cX5_setOut 25 = .ok (.iload 4, 2) := dk_21 4 (dk_at dksX5_setOut_1 2 rfl rfl)
theorem dX5_setOut_27 : decode cX5_setOut 27 = .ok (.aload_n 0, 1) := dk_42 (dk_at dksX5_setOut_1 4 rfl rfl)
theorem dX5_setOut_28 : decode cX5_setOut 28 = .ok (.getfield 89, 3) := dk_180 0 89 (dk_at dksX5_setOut_1 5 rfl rfl)
theorem dX5_setOut_31 : decode cX5_setOut 31 = .ok (.if_icmp .ge 30, 3) := dk_162 0 30 (dk_at dksX5_setOut_1 8 rfl rfl)
theorem dX5_setOut_34 : decode cX5_setOut 34 = .ok (.iload_n 1, 1) := dk_27 (dk_at dksX5_setOut_1 11 rfl rfl)
theorem dX5_setOut_35 : decode cX5_setOut 35 = .ok (.iload 4, 2) := dk_21 4 (dk_at dksX5_setOut_1 12 rfl rfl)
theorem dX5_setOut_37 : decode cX5_setOut 37 = .ok (.invokestatic 194, 3) := dk_184 0 194 (dk_at dksX5_setOut_1 14 rfl rfl)
theorem dX5_setOut_40 : decode cX5_setOut 40 = .ok (.ifCond .eq 15, 3) := dk_153 0 15 (dk_at dksX5_setOut_1 17 rfl rfl)
theorem dX5_setOut_43 : decode cX5_setOut 43 = .ok (.iload_n 3, 1) := dk_29 (dk_at dksX5_setOut_1 20 rfl rfl)
theorem dX5_setOut_44 : decode cX5_setOut 44 = .ok (.iconst 1, 1) := dk_4 (dk_at dksX5_setOut_1 21 rfl rfl)
theorem dX5_setOut_45 : decode cX5_setOut 45 = .ok (.aload_n 0, 1) := dk_42 (dk_at dksX5_setOut_1 22 rfl rfl)
theorem dX5_setOut_46 : decode cX5_setOut 46 = .ok (.getfield 16, 3) := dk_180 0 16 (dk_at dksX5_setOut_2 0 rfl rfl)
theorem dX5_setOut_49 : decode cX5_setOut 49 = .ok (.iload 4, 2) := dk_21 4 (dk_at dksX5_setOut_2 3 rfl rfl)
theorem dX5_setOut_51 : decode cX5_setOut 51 = .ok (.iaload, 1) := dk_46 (dk_at dksX5_setOut_2 5 rfl rfl)
theorem dX5_setOut_52 : decode cX5_setOut 52 = .ok (.ishl, 1) := dk_120 (dk_at dksX5_setOut_2 6 rfl rfl)
theorem dX5_setOut_53 : decode cX5_setOut 53 = .ok (.ior, 1) := dk_128 (dk_at dksX5_setOut_2 7 rfl rfl)
theorem dX5_setOut_54 : decode cX5_setOut 54 = .ok (.istore_n 3, 1) := dk_62 (dk_at dksX5_setOut_2 8 rfl rfl)
theorem dX5_setOut_55 : decode cX5_setOut 55 = .ok (.iinc 4 1, 3) := dk_132 4 1 (dk_at dksX5_setOut_2 9 rfl rfl)
theorem dX5_setOut_58 : decode cX5_setOut 58 = .ok (.goto (-33), 3) := dk_167 255 223 (dk_at dksX5_setOut_2 12 rfl rfl)
theorem dX5_setOut_61 : decode cX5_setOut 61 = .ok (.iconst 0, 1) := dk_3 (dk_at dksX5_setOut_2 15 rfl rfl)
theorem dX5_setOut_62 : decode cX5_setOut 62 = .ok (.istore 4, 2) := dk_54 4 (dk_at dksX5_setOut_2 16 rfl rfl)
theorem dX5_setOut_64 : decode cX5_setOut 64 = .ok (.iload 4, 2) := dk_21 4 (dk_at dksX5_setOut_2 18 rfl rfl)
theorem dX5_setOut_66 : decode cX5_setOut 66 = .ok (.iconst 4, 1) := dk_7 (dk_at dksX5_setOut_2 20 rfl rfl)
theorem dX5_setOut_67 : decode cX5_setOut 67 = .ok (.if_icmp .ge 21, 3) := dk_162 0 21 (dk_at dksX5_setOut_2 21 rfl rfl)
theorem dX5_setOut_70 : decode cX5_setOut 70 = .ok (.aload_n 0, 1) := dk_42 (dk_at dksX5_setOut_3 0 rfl rfl)
theorem dX5_setOut_71 : decode cX5_setOut 71 = .ok (.iload_n 1, 1) := dk_27 (dk_at dksX5_setOut_3 1 rfl rfl)
theorem dX5_setOut_72 : decode cX5_setOut 72 = .ok (.iconst 0, 1) := dk_3 (dk_at dksX5_setOut_3 2 rfl rfl)
theorem dX5_setOut_73 : decode cX5_setOut 73 = .ok (.iload 4, 2) := dk_21 4 (dk_at dksX5_setOut_3 3 rfl rfl)
theorem dX5_setOut_75 : decode cX5_setOut 75 = .ok (.iload_n 3, 1) := dk_29 (dk_at dksX5_setOut_3 5 rfl rfl)
theorem dX5_setOut_76 : decode cX5_setOut 76 = .ok (.invokevirtual 248, 3) := dk_182 0 248 (dk_at dksX5_setOut_3 6 rfl rfl)
theorem dX5_setOut_79 : decode cX5_setOut 79 = .ok (.ifCond .ne 9, 3) := dk_154 0 9 (dk_at dksX5_setOut_3 9 rfl rfl)
theorem dX5_setOut_82 : decode cX5_setOut 82 = .ok (.iinc 4 1, 3) := dk_132 4 1 (dk_at dksX5_setOut_3 12 rfl rfl)
theorem dX5_setOut_85 : decode cX5_setOut 85 = .ok (.goto (-21), 3) := dk_167 255 235 (dk_at dksX5_setOut_3 15 rfl rfl)
theorem dX5_setOut_88 : decode cX5_setOut 88 = .ok (.iload_n 2, 1) := dk_28 (dk_at dksX5_setOut_3 18 rfl rfl)
theorem dX5_setOut_89 : decode cX5_setOut 89 = .ok (.iconst (-1), 1) := dk_2 (dk_at dksX5_setOut_3 19 rfl rfl)
theorem dX5_setOut_90 : decode cX5_setOut 90 = .ok (.if_icmp .ne 16, 3) := dk_160 0 16 (dk_at dksX5_setOut_3 20 rfl rfl)
theorem dX5_setOut_93 : decode cX5_setOut 93 = .ok (.iload 4, 2) := dk_21 4 (dk_at dksX5_setOut_4 0 rfl rfl)
theorem dX5_setOut_95 : decode cX5_setOut 95 = .ok (.iconst 4, 1) := dk_7 (dk_at dksX5_setOut_4 2 rfl rfl)
theorem dX5_setOut_96 : decode cX5_setOut 96 = .ok (.if_icmp .ne 7, 3) := dk_160 0 7 (dk_at dksX5_setOut_4 3 rfl rfl)
theorem dX5_setOut_99 : decode cX5_setOut 99 = .ok (.iconst (-1), 1) := dk_2 (dk_at dksX5_setOut_4 6 rfl rfl)
theorem dX5_setOut_100 : decode cX5_setOut 100 = .ok (.goto 5, 3) := dk_167 0 5 (dk_at dksX5_setOut_4 7 rfl rfl)
theorem dX5_setOut_103 : decode cX5_setOut 103 = .ok (.iload 4, 2) := dk_21 4 (dk_at dksX5_setOut_4 10 rfl rfl)
theorem dX5_setOut_105 : decode cX5_setOut 105 = .ok (.ireturn, 1) := dk_172 (dk_at dksX5_setOut_4 12 rfl rfl)
theorem dX5_setOut_106 : decode cX5_setOut 106 = .ok (.iload 4, 2) := dk_21 4 (dk_at dksX5_setOut_4 13 rfl rfl)
theorem dX5_setOut_108 : decode cX5_setOut 108 = .ok (.iconst 4, 1) := dk_7 (dk_at dksX5_setOut_4 15 rfl rfl)
theorem dX5_setOut_109 : decode cX5_setOut 109 = .ok (.if_icmp .eq 9, 3) := dk_159 0 9 (dk_at dksX5_setOut_4 16 rfl rfl)
theorem dX5_setOut_112 : decode cX5_setOut 112 = .ok (.iload_n 2, 1) := dk_28 (dk_at dksX5_setOut_4 19 rfl rfl)
theorem dX5_setOut_113 : decode cX5_setOut 113 = .ok (.iload 4, 2) := dk_21 4 (dk_at dksX5_setOut_4 20 rfl rfl)
theorem dX5_setOut_115 : decode cX5_setOut 115 = .ok (.if_icmp .lt 12, 3) := dk_161 0 12 (dk_at dksX5_setOut_5 0 rfl rfl)
theorem dX5_setOut_118 : decode cX5_setOut 118 = .ok (.aload_n 0, 1) := dk_42 (dk_at dksX5_setOut_5 3 rfl rfl)
theorem dX5_setOut_119 : decode cX5_setOut 119 = .ok (.bipush (-5), 2) := dk_16 251 (dk_at dksX5_setOut_5 4 rfl rfl)
theorem dX5_setOut_121 : decode cX5_setOut 121 = .ok (.invokevirtual 96, 3) := dk_182 0 96 (dk_at dksX5_setOut_5 6 rfl rfl)
theorem dX5_setOut_124 : decode cX5_setOut 124 = .ok (.goto 9, 3) := dk_167 0 9 (dk_at dksX5_setOut_5 9 rfl rfl)
theorem dX5_setOut_127 : decode cX5_setOut 127 = .ok (.aload_n 0, 1) := dk_42 (dk_at dksX5_setOut_5 12 rfl rfl)
theorem dX5_setOut_128 : decode cX5_setOut 128 = .ok (.getfield 78, 3) := dk_180 0 78 (dk_at dksX5_setOut_5 13 rfl rfl)
theorem dX5_setOut_131 : decode cX5_setOut 131 = .ok (.iload_n 2, 1) := dk_28 (dk_at dksX5_setOut_5 16 rfl rfl)
theorem dX5_setOut_132 : decode cX5_setOut 132 = .ok (.iaload, 1) := dk_46 (dk_at dksX5_setOut_5 17 rfl rfl)
theorem dX5_setOut_133 : decode cX5_setOut 133 = .ok (.ireturn, 1) := dk_172 (dk_at dksX5_setOut_5 18 rfl rfl)
abbrev cX5_putsOut : ByteArray := prog_17_method_58_code
def yX5_putsOut : MethodName := ⟨RX5, "putsOut", "(IIII)Z"⟩
def dkwX5_putsOut_5 : List UInt8 := [182, 0, 248, 54, 6, 132, 7, 1, 167, 255, 198, 42, 180, 0, 9, 21, 5, 2, 79, 21, 6, 172]
abbrev dktX5_putsOut_5 : List UInt8 := dkwX5_putsOut_5 ++ []
def dkwX5_putsOut_4 : List UInt8 := [180, 0, 78, 28, 21, 7, 79, 42, 180, 0, 9, 21, 5, 21, 7, 79, 42, 27, 28, 4, 96, 29, 21, 4]
abbrev dktX5_putsOut_4 : List UInt8 := dkwX5_putsOut_4 ++ dktX5_putsOut_5
def dkwX5_putsOut_3 : List UInt8 := [162, 0, 57, 21, 6, 154, 0, 52, 21, 4, 21, 7, 184, 0, 194, 154, 0, 6, 167, 0, 33, 42]
abbrev dktX5_putsOut_3 : List UInt8 := dkwX5_putsOut_3 ++ dktX5_putsOut_4
def dkwX5_putsOut_2 : List UInt8 := [167, 255, 235, 21, 5, 16, 12, 160, 0, 5, 3, 172, 3, 54, 6, 3, 54, 7, 21, 7, 16, 8]
abbrev dktX5_putsOut_2 : List UInt8 := dkwX5_putsOut_2 ++ dktX5_putsOut_3
def dkwX5_putsOut_1 : List UInt8 := [54, 5, 21, 5, 16, 12, 162, 0, 20, 42, 180, 0, 9, 21, 5, 46, 2, 159, 0, 9, 132, 5, 1]
abbrev dktX5_putsOut_1 : List UInt8 := dkwX5_putsOut_1 ++ dktX5_putsOut_2
def dkwX5_putsOut_0 : List UInt8 := [28, 29, 160, 0, 21, 42, 27, 182, 0, 240, 27, 184, 0, 243, 160, 0, 7, 4, 167, 0, 4, 3, 172, 3]
abbrev dktX5_putsOut_0 : List UInt8 := dkwX5_putsOut_0 ++ dktX5_putsOut_1
theorem dksX5_putsOut_0 : cX5_putsOut.data.toList.drop 0 = dktX5_putsOut_0 := by decide +kernel
theorem dksX5_putsOut_1 : cX5_putsOut.data.toList.drop 24 = dktX5_putsOut_1 := dk_seg dksX5_putsOut_0 24 rfl rfl
theorem dksX5_putsOut_2 : cX5_putsOut.data.toList.drop 47 = dktX5_putsOut_2 := dk_seg dksX5_putsOut_1 23 rfl rfl
theorem dksX5_putsOut_3 : cX5_putsOut.data.toList.drop 69 = dktX5_putsOut_3 := dk_seg dksX5_putsOut_2 22 rfl rfl
theorem dksX5_putsOut_4 : cX5_putsOut.data.toList.drop 91 = dktX5_putsOut_4 := dk_seg dksX5_putsOut_3 22 rfl rfl
theorem dksX5_putsOut_5 : cX5_putsOut.data.toList.drop 115 = dktX5_putsOut_5 := dk_seg dksX5_putsOut_4 24 rfl rfl
theorem dX5_putsOut_0 : decode cX5_putsOut 0 = .ok (.iload_n 2, 1) := dk_28 (dk_at dksX5_putsOut_0 0 rfl rfl)
theorem dX5_putsOut_1 : decode cX5_putsOut 1 = .ok (.iload_n 3, 1) := dk_29 (dk_at dksX5_putsOut_0 1 rfl rfl)
theorem dX5_putsOut_2 : decode cX5_putsOut 2 = .ok (.if_icmp .ne 21, 3) := dk_160 0 21 (dk_at dksX5_putsOut_0 2 rfl rfl)
theorem dX5_putsOut_5 : decode cX5_putsOut 5 = .ok (.aload_n 0, 1) := dk_42 (dk_at dksX5_putsOut_0 5 rfl rfl)
theorem dX5_putsOut_6 : decode cX5_putsOut 6 = .ok (.iload_n 1, 1) := dk_27 (dk_at dksX5_putsOut_0 6 rfl rfl)
theorem dX5_putsOut_7 : decode cX5_putsOut 7 = .ok (.invokevirtual 240, 3) := dk_182 0 240 (dk_at dksX5_putsOut_0 7 rfl rfl)
theorem dX5_putsOut_10 : decode cX5_putsOut 10 = .ok (.iload_n 1, 1) := dk_27 (dk_at dksX5_putsOut_0 10 rfl rfl)
theorem dX5_putsOut_11 : decode cX5_putsOut 11 = .ok (.invokestatic 243, 3) := dk_184 0 243 (dk_at dksX5_putsOut_0 11 rfl rfl)
theorem dX5_putsOut_14 : decode cX5_putsOut 14 = .ok (.if_icmp .ne 7, 3) := dk_160 0 7 (dk_at dksX5_putsOut_0 14 rfl rfl)
theorem dX5_putsOut_17 : decode cX5_putsOut 17 = .ok (.iconst 1, 1) := dk_4 (dk_at dksX5_putsOut_0 17 rfl rfl)
theorem dX5_putsOut_18 : decode cX5_putsOut 18 = .ok (.goto 4, 3) := dk_167 0 4 (dk_at dksX5_putsOut_0 18 rfl rfl)
theorem dX5_putsOut_21 : decode cX5_putsOut 21 = .ok (.iconst 0, 1) := dk_3 (dk_at dksX5_putsOut_0 21 rfl rfl)
theorem dX5_putsOut_22 : decode cX5_putsOut 22 = .ok (.ireturn, 1) := dk_172 (dk_at dksX5_putsOut_0 22 rfl rfl)
theorem dX5_putsOut_23 : decode cX5_putsOut 23 = .ok (.iconst 0, 1) := dk_3 (dk_at dksX5_putsOut_0 23 rfl rfl)
theorem dX5_putsOut_24 : decode cX5_putsOut 24 = .ok (.istore 5, 2) := dk_54 5 (dk_at dksX5_putsOut_1 0 rfl rfl)
theorem dX5_putsOut_26 : decode cX5_putsOut 26 = .ok (.iload 5, 2) := dk_21 5 (dk_at dksX5_putsOut_1 2 rfl rfl)
theorem dX5_putsOut_28 : decode cX5_putsOut 28 = .ok (.bipush 12, 2) := dk_16 12 (dk_at dksX5_putsOut_1 4 rfl rfl)
theorem dX5_putsOut_30 : decode cX5_putsOut 30 = .ok (.if_icmp .ge 20, 3) := dk_162 0 20 (dk_at dksX5_putsOut_1 6 rfl rfl)
theorem dX5_putsOut_33 : decode cX5_putsOut 33 = .ok (.aload_n 0, 1) := dk_42 (dk_at dksX5_putsOut_1 9 rfl rfl)
theorem dX5_putsOut_34 : decode cX5_putsOut 34 = .ok (.getfield 9, 3) := dk_180 0 9 (dk_at dksX5_putsOut_1 10 rfl rfl)
theorem dX5_putsOut_37 : decode cX5_putsOut 37 = .ok (.iload 5, 2) := dk_21 5 (dk_at dksX5_putsOut_1 13 rfl rfl)
theorem dX5_putsOut_39 : decode cX5_putsOut 39 = .ok (.iaload, 1) := dk_46 (dk_at dksX5_putsOut_1 15 rfl rfl)
theorem dX5_putsOut_40 : decode cX5_putsOut 40 = .ok (.iconst (-1), 1) := dk_2 (dk_at dksX5_putsOut_1 16 rfl rfl)
theorem dX5_putsOut_41 : decode cX5_putsOut 41 = .ok (.if_icmp .eq 9, 3) := dk_159 0 9 (dk_at dksX5_putsOut_1 17 rfl rfl)
theorem dX5_putsOut_44 : decode cX5_putsOut 44 = .ok (.iinc 5 1, 3) := dk_132 5 1 (dk_at dksX5_putsOut_1 20 rfl rfl)
theorem dX5_putsOut_47 : decode cX5_putsOut 47 = .ok (.goto (-21), 3) := dk_167 255 235 (dk_at dksX5_putsOut_2 0 rfl rfl)
theorem dX5_putsOut_50 : decode cX5_putsOut 50 = .ok (.iload 5, 2) := dk_21 5 (dk_at dksX5_putsOut_2 3 rfl rfl)
theorem dX5_putsOut_52 : decode cX5_putsOut 52 = .ok (.bipush 12, 2) := dk_16 12 (dk_at dksX5_putsOut_2 5 rfl rfl)
theorem dX5_putsOut_54 : decode cX5_putsOut 54 = .ok (.if_icmp .ne 5, 3) := dk_160 0 5 (dk_at dksX5_putsOut_2 7 rfl rfl)
theorem dX5_putsOut_57 : decode cX5_putsOut 57 = .ok (.iconst 0, 1) := dk_3 (dk_at dksX5_putsOut_2 10 rfl rfl)
theorem dX5_putsOut_58 : decode cX5_putsOut 58 = .ok (.ireturn, 1) := dk_172 (dk_at dksX5_putsOut_2 11 rfl rfl)
theorem dX5_putsOut_59 : decode cX5_putsOut 59 = .ok (.iconst 0, 1) := dk_3 (dk_at dksX5_putsOut_2 12 rfl rfl)
theorem dX5_putsOut_60 : decode cX5_putsOut 60 = .ok (.istore 6, 2) := dk_54 6 (dk_at dksX5_putsOut_2 13 rfl rfl)
theorem dX5_putsOut_62 : decode cX5_putsOut 62 = .ok (.iconst 0, 1) := dk_3 (dk_at dksX5_putsOut_2 15 rfl rfl)
theorem dX5_putsOut_63 : decode cX5_putsOut 63 = .ok (.istore 7, 2) := dk_54 7 (dk_at dksX5_putsOut_2 16 rfl rfl)
theorem dX5_putsOut_65 : decode cX5_putsOut 65 = .ok (.iload 7, 2) := dk_21 7 (dk_at dksX5_putsOut_2 18 rfl rfl)
theorem dX5_putsOut_67 : decode cX5_putsOut 67 = .ok (.bipush 8, 2) := dk_16 8 (dk_at dksX5_putsOut_2 20 rfl rfl)
theorem dX5_putsOut_69 : decode cX5_putsOut 69 = .ok (.if_icmp .ge 57, 3) := dk_162 0 57 (dk_at dksX5_putsOut_3 0 rfl rfl)
theorem dX5_putsOut_72 : decode cX5_putsOut 72 = .ok (.iload 6, 2) := dk_21 6 (dk_at dksX5_putsOut_3 3 rfl rfl)
theorem dX5_putsOut_74 : decode cX5_putsOut 74 = .ok (.ifCond .ne 52, 3) := dk_154 0 52 (dk_at dksX5_putsOut_3 5 rfl rfl)
theorem dX5_putsOut_77 : decode cX5_putsOut 77 = .ok (.iload 4, 2) := dk_21 4 (dk_at dksX5_putsOut_3 8 rfl rfl)
theorem dX5_putsOut_79 : decode cX5_putsOut 79 = .ok (.iload 7, 2) := dk_21 7 (dk_at dksX5_putsOut_3 10 rfl rfl)
theorem dX5_putsOut_81 : decode cX5_putsOut 81 = .ok (.invokestatic 194, 3) := dk_184 0 194 (dk_at dksX5_putsOut_3 12 rfl rfl)
theorem dX5_putsOut_84 : decode cX5_putsOut 84 = .ok (.ifCond .ne 6, 3) := dk_154 0 6 (dk_at dksX5_putsOut_3 15 rfl rfl)
theorem dX5_putsOut_87 : decode cX5_putsOut 87 = .ok (.goto 33, 3) := dk_167 0 33 (dk_at dksX5_putsOut_3 18 rfl rfl)
theorem dX5_putsOut_90 : decode cX5_putsOut 90 = .ok (.aload_n 0, 1) := dk_42 (dk_at dksX5_putsOut_3 21 rfl rfl)
theorem dX5_putsOut_91 : decode cX5_putsOut 91 = .ok (.getfield 78, 3) := dk_180 0 78 (dk_at dksX5_putsOut_4 0 rfl rfl)
theorem dX5_putsOut_94 : decode cX5_putsOut 94 = .ok (.iload_n 2, 1) := dk_28 (dk_at dksX5_putsOut_4 3 rfl rfl)
theorem dX5_putsOut_95 : decode cX5_putsOut 95 = .ok (.iload 7, 2) := dk_21 7 (dk_at dksX5_putsOut_4 4 rfl rfl)
theorem dX5_putsOut_97 : decode cX5_putsOut 97 = .ok (.iastore, 1) := dk_79 (dk_at dksX5_putsOut_4 6 rfl rfl)
theorem dX5_putsOut_98 : decode cX5_putsOut 98 = .ok (.aload_n 0, 1) := dk_42 (dk_at dksX5_putsOut_4 7 rfl rfl)
theorem dX5_putsOut_99 : decode cX5_putsOut 99 = .ok (.getfield 9, 3) := dk_180 0 9 (dk_at dksX5_putsOut_4 8 rfl rfl)
theorem dX5_putsOut_102 : decode cX5_putsOut 102 = .ok (.iload 5, 2) := dk_21 5 (dk_at dksX5_putsOut_4 11 rfl rfl)
theorem dX5_putsOut_104 : decode cX5_putsOut 104 = .ok (.iload 7, 2) := dk_21 7 (dk_at dksX5_putsOut_4 13 rfl rfl)
theorem dX5_putsOut_106 : decode cX5_putsOut 106 = .ok (.iastore, 1) := dk_79 (dk_at dksX5_putsOut_4 15 rfl rfl)
theorem dX5_putsOut_107 : decode cX5_putsOut 107 = .ok (.aload_n 0, 1) := dk_42 (dk_at dksX5_putsOut_4 16 rfl rfl)
theorem dX5_putsOut_108 : decode cX5_putsOut 108 = .ok (.iload_n 1, 1) := dk_27 (dk_at dksX5_putsOut_4 17 rfl rfl)
theorem dX5_putsOut_109 : decode cX5_putsOut 109 = .ok (.iload_n 2, 1) := dk_28 (dk_at dksX5_putsOut_4 18 rfl rfl)
theorem dX5_putsOut_110 : decode cX5_putsOut 110 = .ok (.iconst 1, 1) := dk_4 (dk_at dksX5_putsOut_4 19 rfl rfl)
theorem dX5_putsOut_111 : decode cX5_putsOut 111 = .ok (.iadd, 1) := dk_96 (dk_at dksX5_putsOut_4 20 rfl rfl)
theorem dX5_putsOut_112 : decode cX5_putsOut 112 = .ok (.iload_n 3, 1) := dk_29 (dk_at dksX5_putsOut_4 21 rfl rfl)
theorem dX5_putsOut_113 : decode cX5_putsOut 113 = .ok (.iload 4, 2) := dk_21 4 (dk_at dksX5_putsOut_4 22 rfl rfl)
theorem dX5_putsOut_115 : decode cX5_putsOut 115 = .ok (.invokevirtual 248, 3) := dk_182 0 248 (dk_at dksX5_putsOut_5 0 rfl rfl)
theorem dX5_putsOut_118 : decode cX5_putsOut 118 = .ok (.istore 6, 2) := dk_54 6 (dk_at dksX5_putsOut_5 3 rfl rfl)
theorem dX5_putsOut_120 : decode cX5_putsOut 120 = .ok (.iinc 7 1, 3) := dk_132 7 1 (dk_at dksX5_putsOut_5 5 rfl rfl)
theorem dX5_putsOut_123 : decode cX5_putsOut 123 = .ok (.goto (-58), 3) := dk_167 255 198 (dk_at dksX5_putsOut_5 8 rfl rfl)
theorem dX5_putsOut_126 : decode cX5_putsOut 126 = .ok (.aload_n 0, 1) := dk_42 (dk_at dksX5_putsOut_5 11 rfl rfl)
theorem dX5_putsOut_127 : decode cX5_putsOut 127 = .ok (.getfield 9, 3) := dk_180 0 9 (dk_at dksX5_putsOut_5 12 rfl rfl)
theorem dX5_putsOut_130 : decode cX5_putsOut 130 = .ok (.iload 5, 2) := dk_21 5 (dk_at dksX5_putsOut_5 15 rfl rfl)
theorem dX5_putsOut_132 : decode cX5_putsOut 132 = .ok (.iconst (-1), 1) := dk_2 (dk_at dksX5_putsOut_5 17 rfl rfl)
theorem dX5_putsOut_133 : decode cX5_putsOut 133 = .ok (.iastore, 1) := dk_79 (dk_at dksX5_putsOut_5 18 rfl rfl)
theorem dX5_putsOut_134 : decode cX5_putsOut 134 = .ok (.iload 6, 2) := dk_21 6 (dk_at dksX5_putsOut_5 19 rfl rfl)
theorem dX5_putsOut_136 : decode cX5_putsOut 136 = .ok (.ireturn, 1) := dk_172 (dk_at dksX5_putsOut_5 21 rfl rfl)
abbrev cX5_who : ByteArray := prog_17_method_60_code
def yX5_who : MethodName := ⟨RX5, "who", "(II)I"⟩
def dkwX5_who_5 : List UInt8 := [21, 4, 167, 0, 15, 28, 5, 160, 0, 8, 21, 5, 167, 0, 5, 21, 6, 172]
abbrev dktX5_who_5 : List UInt8 := dkwX5_who_5 ++ []
def dkwX5_who_4 : List UInt8 := [21, 7, 128, 54, 6, 132, 7, 255, 167, 255, 199, 28, 154, 0, 7, 29, 167, 0, 25, 28, 4, 160, 0, 8]
abbrev dktX5_who_4 : List UInt8 := dkwX5_who_4 ++ dktX5_who_5
def dkwX5_who_3 : List UInt8 := [21, 7, 54, 4, 21, 5, 2, 160, 0, 8, 21, 7, 167, 0, 8, 21, 5, 21, 7, 126, 54, 5, 21, 6]
abbrev dktX5_who_3 : List UInt8 := dkwX5_who_3 ++ dktX5_who_4
def dkwX5_who_2 : List UInt8 := [155, 0, 58, 42, 21, 7, 182, 0, 117, 42, 182, 0, 237, 27, 159, 0, 6, 167, 0, 35, 132, 3, 1]
abbrev dktX5_who_2 : List UInt8 := dkwX5_who_2 ++ dktX5_who_3
def dkwX5_who_1 : List UInt8 := [62, 2, 54, 4, 2, 54, 5, 3, 54, 6, 4, 42, 180, 0, 89, 120, 4, 100, 54, 7, 21, 7]
abbrev dktX5_who_1 : List UInt8 := dkwX5_who_1 ++ dktX5_who_2
def dkwX5_who_0 : List UInt8 := [27, 184, 0, 252, 153, 0, 12, 28, 3, 6, 184, 0, 85, 154, 0, 10, 42, 16, 254, 182, 0, 96, 172, 3]
abbrev dktX5_who_0 : List UInt8 := dkwX5_who_0 ++ dktX5_who_1
theorem dksX5_who_0 : cX5_who.data.toList.drop 0 = dktX5_who_0 := by decide +kernel
theorem dksX5_who_1 : cX5_who.data.toList.drop 24 = dktX5_who_1 := dk_seg dksX5_who_0 24 rfl rfl
theorem dksX5_who_2 : cX5_who.data.toList.drop 46 = dktX5_who_2 := dk_seg dksX5_who_1 22 rfl rfl
theorem dksX5_who_3 : cX5_who.data.toList.drop 69 = dktX5_who_3 := dk_seg dksX5_who_2 23 rfl rfl
theorem dksX5_who_4 : cX5_who.data.toList.drop 93 = dktX5_who_4 := dk_seg dksX5_who_3 24 rfl rfl
theorem dksX5_who_5 : cX5_who.data.toList.drop 117 = dktX5_who_5 := dk_seg dksX5_who_4 24 rfl rfl
theorem dX5_who_0 : decode cX5_who 0 = .ok (.iload_n 1, 1) := dk_27 (dk_at dksX5_who_0 0 rfl rfl)
theorem dX5_who_1 : decode cX5_who 1 = .ok (.invokestatic 252, 3) := dk_184 0 252 (dk_at dksX5_who_0 1 rfl rfl)
theorem dX5_who_4 : decode cX5_who 4 = .ok (.ifCond .eq 12, 3) := dk_153 0 12 (dk_at dksX5_who_0 4 rfl rfl)
theorem dX5_who_7 : decode cX5_who 7 = .ok (.iload_n 2, 1) := dk_28 (dk_at dksX5_who_0 7 rfl rfl)
theorem dX5_who_8 : decode cX5_who 8 = .ok (.iconst 0, 1) := dk_3 (dk_at dksX5_who_0 8 rfl rfl)
theorem dX5_who_9 : decode cX5_who 9 = .ok (.iconst 3, 1) := dk_6 (dk_at dksX5_who_0 9 rfl rfl)
theorem dX5_who_10 : decode cX5_who 10 = .ok (.invokestatic 85, 3) := dk_184 0 85 (dk_at dksX5_who_0 10 rfl rfl)
theorem dX5_who_13 : decode cX5_who 13 = .ok (.ifCond .ne 10, 3) := dk_154 0 10 (dk_at dksX5_who_0 13 rfl rfl)
theorem dX5_who_16 : decode cX5_who 16 = .ok (.aload_n 0, 1) := dk_42 (dk_at dksX5_who_0 16 rfl rfl)
theorem dX5_who_17 : decode cX5_who 17 = .ok (.bipush (-2), 2) := dk_16 254 (dk_at dksX5_who_0 17 rfl rfl)
theorem dX5_who_19 : decode cX5_who 19 = .ok (.invokevirtual 96, 3) := dk_182 0 96 (dk_at dksX5_who_0 19 rfl rfl)
theorem dX5_who_22 : decode cX5_who 22 = .ok (.ireturn, 1) := dk_172 (dk_at dksX5_who_0 22 rfl rfl)
theorem dX5_who_23 : decode cX5_who 23 = .ok (.iconst 0, 1) := dk_3 (dk_at dksX5_who_0 23 rfl rfl)
theorem dX5_who_24 : decode cX5_who 24 = .ok (.istore_n 3, 1) := dk_62 (dk_at dksX5_who_1 0 rfl rfl)
theorem dX5_who_25 : decode cX5_who 25 = .ok (.iconst (-1), 1) := dk_2 (dk_at dksX5_who_1 1 rfl rfl)
theorem dX5_who_26 : decode cX5_who 26 = .ok (.istore 4, 2) := dk_54 4 (dk_at dksX5_who_1 2 rfl rfl)
theorem dX5_who_28 : decode cX5_who 28 = .ok (.iconst (-1), 1) := dk_2 (dk_at dksX5_who_1 4 rfl rfl)
theorem dX5_who_29 : decode cX5_who 29 = .ok (.istore 5, 2) := dk_54 5 (dk_at dksX5_who_1 5 rfl rfl)
theorem dX5_who_31 : decode cX5_who 31 = .ok (.iconst 0, 1) := dk_3 (dk_at dksX5_who_1 7 rfl rfl)
theorem dX5_who_32 : decode cX5_who 32 = .ok (.istore 6, 2) := dk_54 6 (dk_at dksX5_who_1 8 rfl rfl)
theorem dX5_who_34 : decode cX5_who 34 = .ok (.iconst 1, 1) := dk_4 (dk_at dksX5_who_1 10 rfl rfl)
theorem dX5_who_35 : decode cX5_who 35 = .ok (.aload_n 0, 1) := dk_42 (dk_at dksX5_who_1 11 rfl rfl)
theorem dX5_who_36 : decode cX5_who 36 = .ok (.getfield 89, 3) := dk_180 0 89 (dk_at dksX5_who_1 12 rfl rfl)
theorem dX5_who_39 : decode cX5_who 39 = .ok (.ishl, 1) := dk_120 (dk_at dksX5_who_1 15 rfl rfl)
theorem dX5_who_40 : decode cX5_who 40 = .ok (.iconst 1, 1) := dk_4 (dk_at dksX5_who_1 16 rfl rfl)
theorem dX5_who_41 : decode cX5_who 41 = .ok (.isub, 1) := dk_100 (dk_at dksX5_who_1 17 rfl rfl)
theorem dX5_who_42 : decode cX5_who 42 = .ok (.istore 7, 2) := dk_54 7 (dk_at dksX5_who_1 18 rfl rfl)
theorem dX5_who_44 : decode cX5_who 44 = .ok (.iload 7, 2) := dk_21 7 (dk_at dksX5_who_1 20 rfl rfl)
theorem dX5_who_46 : decode cX5_who 46 = .ok (.ifCond .lt 58, 3) := dk_155 0 58 (dk_at dksX5_who_2 0 rfl rfl)
theorem dX5_who_49 : decode cX5_who 49 = .ok (.aload_n 0, 1) := dk_42 (dk_at dksX5_who_2 3 rfl rfl)
theorem dX5_who_50 : decode cX5_who 50 = .ok (.iload 7, 2) := dk_21 7 (dk_at dksX5_who_2 4 rfl rfl)
theorem dX5_who_52 : decode cX5_who 52 = .ok (.invokevirtual 117, 3) := dk_182 0 117 (dk_at dksX5_who_2 6 rfl rfl)
theorem dX5_who_55 : decode cX5_who 55 = .ok (.aload_n 0, 1) := dk_42 (dk_at dksX5_who_2 9 rfl rfl)
theorem dX5_who_56 : decode cX5_who 56 = .ok (.invokevirtual 237, 3) := dk_182 0 237 (dk_at dksX5_who_2 10 rfl rfl)
theorem dX5_who_59 : decode cX5_who 59 = .ok (.iload_n 1, 1) := dk_27 (dk_at dksX5_who_2 13 rfl rfl)
theorem dX5_who_60 : decode cX5_who 60 = .ok (.if_icmp .eq 6, 3) := dk_159 0 6 (dk_at dksX5_who_2 14 rfl rfl)
theorem dX5_who_63 : decode cX5_who 63 = .ok (.goto 35, 3) := dk_167 0 35 (dk_at dksX5_who_2 17 rfl rfl)
theorem dX5_who_66 : decode cX5_who 66 = .ok (.iinc 3 1, 3) := dk_132 3 1 (dk_at dksX5_who_2 20 rfl rfl)
theorem dX5_who_69 : decode cX5_who 69 = .ok (.iload 7, 2) := dk_21 7 (dk_at dksX5_who_3 0 rfl rfl)
theorem dX5_who_71 : decode cX5_who 71 = .ok (.istore 4, 2) := dk_54 4 (dk_at dksX5_who_3 2 rfl rfl)
theorem dX5_who_73 : decode cX5_who 73 = .ok (.iload 5, 2) := dk_21 5 (dk_at dksX5_who_3 4 rfl rfl)
theorem dX5_who_75 : decode cX5_who 75 = .ok (.iconst (-1), 1) := dk_2 (dk_at dksX5_who_3 6 rfl rfl)
theorem dX5_who_76 : decode cX5_who 76 = .ok (.if_icmp .ne 8, 3) := dk_160 0 8 (dk_at dksX5_who_3 7 rfl rfl)
theorem dX5_who_79 : decode cX5_who 79 = .ok (.iload 7, 2) := dk_21 7 (dk_at dksX5_who_3 10 rfl rfl)
theorem dX5_who_81 : decode cX5_who 81 = .ok (.goto 8, 3) := dk_167 0 8 (dk_at dksX5_who_3 12 rfl rfl)
theorem dX5_who_84 : decode cX5_who 84 = .ok (.iload 5, 2) := dk_21 5 (dk_at dksX5_who_3 15 rfl rfl)
theorem dX5_who_86 : decode cX5_who 86 = .ok (.iload 7, 2) := dk_21 7 (dk_at dksX5_who_3 17 rfl rfl)
theorem dX5_who_88 : decode cX5_who 88 = .ok (.iand, 1) := dk_126 (dk_at dksX5_who_3 19 rfl rfl)
theorem dX5_who_89 : decode cX5_who 89 = .ok (.istore 5, 2) := dk_54 5 (dk_at dksX5_who_3 20 rfl rfl)
theorem dX5_who_91 : decode cX5_who 91 = .ok (.iload 6, 2) := dk_21 6 (dk_at dksX5_who_3 22 rfl rfl)
theorem dX5_who_93 : decode cX5_who 93 = .ok (.iload 7, 2) := dk_21 7 (dk_at dksX5_who_4 0 rfl rfl)
theorem dX5_who_95 : decode cX5_who 95 = .ok (.ior, 1) := dk_128 (dk_at dksX5_who_4 2 rfl rfl)
theorem dX5_who_96 : decode cX5_who 96 = .ok (.istore 6, 2) := dk_54 6 (dk_at dksX5_who_4 3 rfl rfl)
theorem dX5_who_98 : decode cX5_who 98 = .ok (.iinc 7 (-1), 3) := dk_132 7 255 (dk_at dksX5_who_4 5 rfl rfl)
theorem dX5_who_101 : decode cX5_who 101 = .ok (.goto (-57), 3) := dk_167 255 199 (dk_at dksX5_who_4 8 rfl rfl)
theorem dX5_who_104 : decode cX5_who 104 = .ok (.iload_n 2, 1) := dk_28 (dk_at dksX5_who_4 11 rfl rfl)
theorem dX5_who_105 : decode cX5_who 105 = .ok (.ifCond .ne 7, 3) := dk_154 0 7 (dk_at dksX5_who_4 12 rfl rfl)
theorem dX5_who_108 : decode cX5_who 108 = .ok (.iload_n 3, 1) := dk_29 (dk_at dksX5_who_4 15 rfl rfl)
theorem dX5_who_109 : decode cX5_who 109 = .ok (.goto 25, 3) := dk_167 0 25 (dk_at dksX5_who_4 16 rfl rfl)
theorem dX5_who_112 : decode cX5_who 112 = .ok (.iload_n 2, 1) := dk_28 (dk_at dksX5_who_4 19 rfl rfl)
theorem dX5_who_113 : decode cX5_who 113 = .ok (.iconst 1, 1) := dk_4 (dk_at dksX5_who_4 20 rfl rfl)
theorem dX5_who_114 : decode cX5_who 114 = .ok (.if_icmp .ne 8, 3) := dk_160 0 8 (dk_at dksX5_who_4 21 rfl rfl)
theorem dX5_who_117 : decode cX5_who 117 = .ok (.iload 4, 2) := dk_21 4 (dk_at dksX5_who_5 0 rfl rfl)
theorem dX5_who_119 : decode cX5_who 119 = .ok (.goto 15, 3) := dk_167 0 15 (dk_at dksX5_who_5 2 rfl rfl)
theorem dX5_who_122 : decode cX5_who 122 = .ok (.iload_n 2, 1) := dk_28 (dk_at dksX5_who_5 5 rfl rfl)
theorem dX5_who_123 : decode cX5_who 123 = .ok (.iconst 2, 1) := dk_5 (dk_at dksX5_who_5 6 rfl rfl)
theorem dX5_who_124 : decode cX5_who 124 = .ok (.if_icmp .ne 8, 3) := dk_160 0 8 (dk_at dksX5_who_5 7 rfl rfl)
theorem dX5_who_127 : decode cX5_who 127 = .ok (.iload 5, 2) := dk_21 5 (dk_at dksX5_who_5 10 rfl rfl)
theorem dX5_who_129 : decode cX5_who 129 = .ok (.goto 5, 3) := dk_167 0 5 (dk_at dksX5_who_5 12 rfl rfl)
theorem dX5_who_132 : decode cX5_who 132 = .ok (.iload 6, 2) := dk_21 6 (dk_at dksX5_who_5 15 rfl rfl)
theorem dX5_who_134 : decode cX5_who 134 = .ok (.ireturn, 1) := dk_172 (dk_at dksX5_who_5 17 rfl rfl)
abbrev cX5_arePlaces : ByteArray := prog_17_method_9_code
def yX5_arePlaces : MethodName := ⟨RX5, "arePlaces", "(I)Z"⟩
def dkwX5_arePlaces_0 : List UInt8 := [26, 3, 17, 15, 255, 184, 0, 85, 172]
abbrev dktX5_arePlaces_0 : List UInt8 := dkwX5_arePlaces_0 ++ []
theorem dksX5_arePlaces_0 : cX5_arePlaces.data.toList.drop 0 = dktX5_arePlaces_0 := by decide +kernel
theorem dX5_arePlaces_0 : decode cX5_arePlaces 0 = .ok (.iload_n 0, 1) := dk_26 (dk_at dksX5_arePlaces_0 0 rfl rfl)
theorem dX5_arePlaces_1 : decode cX5_arePlaces 1 = .ok (.iconst 0, 1) := dk_3 (dk_at dksX5_arePlaces_0 1 rfl rfl)
theorem dX5_arePlaces_2 : decode cX5_arePlaces 2 = .ok (.sipush 4095, 3) := dk_17 15 255 (dk_at dksX5_arePlaces_0 2 rfl rfl)
theorem dX5_arePlaces_5 : decode cX5_arePlaces 5 = .ok (.invokestatic 85, 3) := dk_184 0 85 (dk_at dksX5_arePlaces_0 5 rfl rfl)
theorem dX5_arePlaces_8 : decode cX5_arePlaces 8 = .ok (.ireturn, 1) := dk_172 (dk_at dksX5_arePlaces_0 8 rfl rfl)
abbrev cX5_kinds : ByteArray := prog_17_method_61_code
def yX5_kinds : MethodName := ⟨RX5, "kinds", "(IIII)I"⟩
def dkwX5_kinds_6 : List UInt8 := [42, 180, 0, 13, 28, 21, 5, 79, 42, 180, 0, 16, 28, 21, 6, 79, 21, 7, 172]
abbrev dktX5_kinds_6 : List UInt8 := dkwX5_kinds_6 ++ []
def dkwX5_kinds_5 : List UInt8 := [180, 0, 62, 28, 46, 29, 160, 0, 12, 21, 7, 4, 21, 8, 120, 128, 54, 7, 132, 8, 1, 167, 255, 188]
abbrev dktX5_kinds_5 : List UInt8 := dkwX5_kinds_5 ++ dktX5_kinds_6
def dkwX5_kinds_4 : List UInt8 := [180, 0, 13, 28, 21, 8, 79, 167, 0, 11, 42, 180, 0, 16, 28, 21, 8, 79, 42, 27, 182, 0, 117, 42]
abbrev dktX5_kinds_4 : List UInt8 := dkwX5_kinds_4 ++ dktX5_kinds_5
def dkwX5_kinds_3 : List UInt8 := [21, 8, 21, 4, 154, 0, 8, 16, 6, 167, 0, 5, 16, 8, 162, 0, 57, 21, 4, 154, 0, 14, 42]
abbrev dktX5_kinds_3 : List UInt8 := dkwX5_kinds_3 ++ dktX5_kinds_4
def dkwX5_kinds_2 : List UInt8 := [172, 42, 180, 0, 13, 28, 46, 54, 5, 42, 180, 0, 16, 28, 46, 54, 6, 3, 54, 7, 3, 54, 8]
abbrev dktX5_kinds_2 : List UInt8 := dkwX5_kinds_2 ++ dktX5_kinds_3
def dkwX5_kinds_1 : List UInt8 := [21, 4, 3, 4, 184, 0, 85, 153, 0, 11, 27, 28, 184, 0, 194, 154, 0, 10, 42, 16, 254, 182, 0, 96]
abbrev dktX5_kinds_1 : List UInt8 := dkwX5_kinds_1 ++ dktX5_kinds_2
def dkwX5_kinds_0 : List UInt8 := [42, 27, 182, 0, 234, 153, 0, 36, 42, 28, 182, 0, 110, 153, 0, 28, 29, 184, 0, 252, 153, 0, 21]
abbrev dktX5_kinds_0 : List UInt8 := dkwX5_kinds_0 ++ dktX5_kinds_1
theorem dksX5_kinds_0 : cX5_kinds.data.toList.drop 0 = dktX5_kinds_0 := by decide +kernel
theorem dksX5_kinds_1 : cX5_kinds.data.toList.drop 23 = dktX5_kinds_1 := dk_seg dksX5_kinds_0 23 rfl rfl
theorem dksX5_kinds_2 : cX5_kinds.data.toList.drop 47 = dktX5_kinds_2 := dk_seg dksX5_kinds_1 24 rfl rfl
theorem dksX5_kinds_3 : cX5_kinds.data.toList.drop 70 = dktX5_kinds_3 := dk_seg dksX5_kinds_2 23 rfl rfl
theorem dksX5_kinds_4 : cX5_kinds.data.toList.drop 93 = dktX5_kinds_4 := dk_seg dksX5_kinds_3 23 rfl rfl
theorem dksX5_kinds_5 : cX5_kinds.data.toList.drop 117 = dktX5_kinds_5 := dk_seg dksX5_kinds_4 24 rfl rfl
theorem dksX5_kinds_6 : cX5_kinds.data.toList.drop 141 = dktX5_kinds_6 := dk_seg dksX5_kinds_5 24 rfl rfl
theorem dX5_kinds_0 : decode cX5_kinds 0 = .ok (.aload_n 0, 1) := dk_42 (dk_at dksX5_kinds_0 0 rfl rfl)
theorem dX5_kinds_1 : decode cX5_kinds 1 = .ok (.iload_n 1, 1) := dk_27 (dk_at dksX5_kinds_0 1 rfl rfl)
theorem dX5_kinds_2 : decode cX5_kinds 2 = .ok (.invokevirtual 234, 3) := dk_182 0 234 (dk_at dksX5_kinds_0 2 rfl rfl)
theorem dX5_kinds_5 : decode cX5_kinds 5 = .ok (.ifCond .eq 36, 3) := dk_153 0 36 (dk_at dksX5_kinds_0 5 rfl rfl)
theorem dX5_kinds_8 : decode cX5_kinds 8 = .ok (.aload_n 0, 1) := dk_42 (dk_at dksX5_kinds_0 8 rfl rfl)
theorem dX5_kinds_9 : decode cX5_kinds 9 = .ok (.iload_n 2, 1) := dk_28 (dk_at dksX5_kinds_0 9 rfl rfl)
theorem dX5_kinds_10 : decode cX5_kinds 10 = .ok (.invokevirtual 110, 3) := dk_182 0 110 (dk_at dksX5_kinds_0 10 rfl rfl)
theorem dX5_kinds_13 : decode cX5_kinds 13 = .ok (.ifCond .eq 28, 3) := dk_153 0 28 (dk_at dksX5_kinds_0 13 rfl rfl)
theorem dX5_kinds_16 : decode cX5_kinds 16 = .ok (.iload_n 3, 1) := dk_29 (dk_at dksX5_kinds_0 16 rfl rfl)
theorem dX5_kinds_17 : decode cX5_kinds 17 = .ok (.invokestatic 252, 3) := dk_184 0 252 (dk_at dksX5_kinds_0 17 rfl rfl)
theorem dX5_kinds_20 : decode cX5_kinds 20 = .ok (.ifCond .eq 21, 3) := dk_153 0 21 (dk_at dksX5_kinds_0 20 rfl rfl)
theorem dX5_kinds_23 : decode cX5_kinds 23 = .ok (.iload 4, 2) := dk_21 4 (dk_at dksX5_kinds_1 0 rfl rfl)
theorem dX5_kinds_25 : decode cX5_kinds 25 = .ok (.iconst 0, 1) := dk_3 (dk_at dksX5_kinds_1 2 rfl rfl)
theorem dX5_kinds_26 : decode cX5_kinds 26 = .ok (.iconst 1, 1) := dk_4 (dk_at dksX5_kinds_1 3 rfl rfl)
theorem dX5_kinds_27 : decode cX5_kinds 27 = .ok (.invokestatic 85, 3) := dk_184 0 85 (dk_at dksX5_kinds_1 4 rfl rfl)
theorem dX5_kinds_30 : decode cX5_kinds 30 = .ok (.ifCond .eq 11, 3) := dk_153 0 11 (dk_at dksX5_kinds_1 7 rfl rfl)
theorem dX5_kinds_33 : decode cX5_kinds 33 = .ok (.iload_n 1, 1) := dk_27 (dk_at dksX5_kinds_1 10 rfl rfl)
theorem dX5_kinds_34 : decode cX5_kinds 34 = .ok (.iload_n 2, 1) := dk_28 (dk_at dksX5_kinds_1 11 rfl rfl)
theorem dX5_kinds_35 : decode cX5_kinds 35 = .ok (.invokestatic 194, 3) := dk_184 0 194 (dk_at dksX5_kinds_1 12 rfl rfl)
theorem dX5_kinds_38 : decode cX5_kinds 38 = .ok (.ifCond .ne 10, 3) := dk_154 0 10 (dk_at dksX5_kinds_1 15 rfl rfl)
theorem dX5_kinds_41 : decode cX5_kinds 41 = .ok (.aload_n 0, 1) := dk_42 (dk_at dksX5_kinds_1 18 rfl rfl)
theorem dX5_kinds_42 : decode cX5_kinds 42 = .ok (.bipush (-2), 2) := dk_16 254 (dk_at dksX5_kinds_1 19 rfl rfl)
theorem dX5_kinds_44 : decode cX5_kinds 44 = .ok (.invokevirtual 96, 3) := dk_182 0 96 (dk_at dksX5_kinds_1 21 rfl rfl)
theorem dX5_kinds_47 : decode cX5_kinds 47 = .ok (.ireturn, 1) := dk_172 (dk_at dksX5_kinds_2 0 rfl rfl)
theorem dX5_kinds_48 : decode cX5_kinds 48 = .ok (.aload_n 0, 1) := dk_42 (dk_at dksX5_kinds_2 1 rfl rfl)
theorem dX5_kinds_49 : decode cX5_kinds 49 = .ok (.getfield 13, 3) := dk_180 0 13 (dk_at dksX5_kinds_2 2 rfl rfl)
theorem dX5_kinds_52 : decode cX5_kinds 52 = .ok (.iload_n 2, 1) := dk_28 (dk_at dksX5_kinds_2 5 rfl rfl)
theorem dX5_kinds_53 : decode cX5_kinds 53 = .ok (.iaload, 1) := dk_46 (dk_at dksX5_kinds_2 6 rfl rfl)
theorem dX5_kinds_54 : decode cX5_kinds 54 = .ok (.istore 5, 2) := dk_54 5 (dk_at dksX5_kinds_2 7 rfl rfl)
theorem dX5_kinds_56 : decode cX5_kinds 56 = .ok (.aload_n 0, 1) := dk_42 (dk_at dksX5_kinds_2 9 rfl rfl)
theorem dX5_kinds_57 : decode cX5_kinds 57 = .ok (.getfield 16, 3) := dk_180 0 16 (dk_at dksX5_kinds_2 10 rfl rfl)
theorem dX5_kinds_60 : decode cX5_kinds 60 = .ok (.iload_n 2, 1) := dk_28 (dk_at dksX5_kinds_2 13 rfl rfl)
theorem dX5_kinds_61 : decode cX5_kinds 61 = .ok (.iaload, 1) := dk_46 (dk_at dksX5_kinds_2 14 rfl rfl)
theorem dX5_kinds_62 : decode cX5_kinds 62 = .ok (.istore 6, 2) := dk_54 6 (dk_at dksX5_kinds_2 15 rfl rfl)
theorem dX5_kinds_64 : decode cX5_kinds 64 = .ok (.iconst 0, 1) := dk_3 (dk_at dksX5_kinds_2 17 rfl rfl)
theorem dX5_kinds_65 : decode cX5_kinds 65 = .ok (.istore 7, 2) := dk_54 7 (dk_at dksX5_kinds_2 18 rfl rfl)
theorem dX5_kinds_67 : decode cX5_kinds 67 = .ok (.iconst 0, 1) := dk_3 (dk_at dksX5_kinds_2 20 rfl rfl)
theorem dX5_kinds_68 : decode cX5_kinds 68 = .ok (.istore 8, 2) := dk_54 8 (dk_at dksX5_kinds_2 21 rfl rfl)
theorem dX5_kinds_70 : decode cX5_kinds 70 = .ok (.iload 8, 2) := dk_21 8 (dk_at dksX5_kinds_3 0 rfl rfl)
theorem dX5_kinds_72 : decode cX5_kinds 72 = .ok (.iload 4, 2) := dk_21 4 (dk_at dksX5_kinds_3 2 rfl rfl)
theorem dX5_kinds_74 : decode cX5_kinds 74 = .ok (.ifCond .ne 8, 3) := dk_154 0 8 (dk_at dksX5_kinds_3 4 rfl rfl)
theorem dX5_kinds_77 : decode cX5_kinds 77 = .ok (.bipush 6, 2) := dk_16 6 (dk_at dksX5_kinds_3 7 rfl rfl)
theorem dX5_kinds_79 : decode cX5_kinds 79 = .ok (.goto 5, 3) := dk_167 0 5 (dk_at dksX5_kinds_3 9 rfl rfl)
theorem dX5_kinds_82 : decode cX5_kinds 82 = .ok (.bipush 8, 2) := dk_16 8 (dk_at dksX5_kinds_3 12 rfl rfl)
theorem dX5_kinds_84 : decode cX5_kinds 84 = .ok (.if_icmp .ge 57, 3) := dk_162 0 57 (dk_at dksX5_kinds_3 14 rfl rfl)
theorem dX5_kinds_87 : decode cX5_kinds 87 = .ok (.iload 4, 2) := dk_21 4 (dk_at dksX5_kinds_3 17 rfl rfl)
theorem dX5_kinds_89 : decode cX5_kinds 89 = .ok (.ifCond .ne 14, 3) := dk_154 0 14 (dk_at dksX5_kinds_3 19 rfl rfl)
theorem dX5_kinds_92 : decode cX5_kinds 92 = .ok (.aload_n 0, 1) := dk_42 (dk_at dksX5_kinds_3 22 rfl rfl)
theorem dX5_kinds_93 : decode cX5_kinds 93 = .ok (.getfield 13, 3) := dk_180 0 13 (dk_at dksX5_kinds_4 0 rfl rfl)
theorem dX5_kinds_96 : decode cX5_kinds 96 = .ok (.iload_n 2, 1) := dk_28 (dk_at dksX5_kinds_4 3 rfl rfl)
theorem dX5_kinds_97 : decode cX5_kinds 97 = .ok (.iload 8, 2) := dk_21 8 (dk_at dksX5_kinds_4 4 rfl rfl)
theorem dX5_kinds_99 : decode cX5_kinds 99 = .ok (.iastore, 1) := dk_79 (dk_at dksX5_kinds_4 6 rfl rfl)
theorem dX5_kinds_100 : decode cX5_kinds 100 = .ok (.goto 11, 3) := dk_167 0 11 (dk_at dksX5_kinds_4 7 rfl rfl)
theorem dX5_kinds_103 : decode cX5_kinds 103 = .ok (.aload_n 0, 1) := dk_42 (dk_at dksX5_kinds_4 10 rfl rfl)
theorem dX5_kinds_104 : decode cX5_kinds 104 = .ok (.getfield 16, 3) := dk_180 0 16 (dk_at dksX5_kinds_4 11 rfl rfl)
theorem dX5_kinds_107 : decode cX5_kinds 107 = .ok (.iload_n 2, 1) := dk_28 (dk_at dksX5_kinds_4 14 rfl rfl)
theorem dX5_kinds_108 : decode cX5_kinds 108 = .ok (.iload 8, 2) := dk_21 8 (dk_at dksX5_kinds_4 15 rfl rfl)
theorem dX5_kinds_110 : decode cX5_kinds 110 = .ok (.iastore, 1) := dk_79 (dk_at dksX5_kinds_4 17 rfl rfl)
theorem dX5_kinds_111 : decode cX5_kinds 111 = .ok (.aload_n 0, 1) := dk_42 (dk_at dksX5_kinds_4 18 rfl rfl)
theorem dX5_kinds_112 : decode cX5_kinds 112 = .ok (.iload_n 1, 1) := dk_27 (dk_at dksX5_kinds_4 19 rfl rfl)
theorem dX5_kinds_113 : decode cX5_kinds 113 = .ok (.invokevirtual 117, 3) := dk_182 0 117 (dk_at dksX5_kinds_4 20 rfl rfl)
theorem dX5_kinds_116 : decode cX5_kinds 116 = .ok (.aload_n 0, 1) := dk_42 (dk_at dksX5_kinds_4 23 rfl rfl)
theorem dX5_kinds_117 : decode cX5_kinds 117 = .ok (.getfield 62, 3) := dk_180 0 62 (dk_at dksX5_kinds_5 0 rfl rfl)
theorem dX5_kinds_120 : decode cX5_kinds 120 = .ok (.iload_n 2, 1) := dk_28 (dk_at dksX5_kinds_5 3 rfl rfl)
theorem dX5_kinds_121 : decode cX5_kinds 121 = .ok (.iaload, 1) := dk_46 (dk_at dksX5_kinds_5 4 rfl rfl)
theorem dX5_kinds_122 : decode cX5_kinds 122 = .ok (.iload_n 3, 1) := dk_29 (dk_at dksX5_kinds_5 5 rfl rfl)
theorem dX5_kinds_123 : decode cX5_kinds 123 = .ok (.if_icmp .ne 12, 3) := dk_160 0 12 (dk_at dksX5_kinds_5 6 rfl rfl)
theorem dX5_kinds_126 : decode cX5_kinds 126 = .ok (.iload 7, 2) := dk_21 7 (dk_at dksX5_kinds_5 9 rfl rfl)
theorem dX5_kinds_128 : decode cX5_kinds 128 = .ok (.iconst 1, 1) := dk_4 (dk_at dksX5_kinds_5 11 rfl rfl)
theorem dX5_kinds_129 : decode cX5_kinds 129 = .ok (.iload 8, 2) := dk_21 8 (dk_at dksX5_kinds_5 12 rfl rfl)
theorem dX5_kinds_131 : decode cX5_kinds 131 = .ok (.ishl, 1) := dk_120 (dk_at dksX5_kinds_5 14 rfl rfl)
theorem dX5_kinds_132 : decode cX5_kinds 132 = .ok (.ior, 1) := dk_128 (dk_at dksX5_kinds_5 15 rfl rfl)
theorem dX5_kinds_133 : decode cX5_kinds 133 = .ok (.istore 7, 2) := dk_54 7 (dk_at dksX5_kinds_5 16 rfl rfl)
theorem dX5_kinds_135 : decode cX5_kinds 135 = .ok (.iinc 8 1, 3) := dk_132 8 1 (dk_at dksX5_kinds_5 18 rfl rfl)
theorem dX5_kinds_138 : decode cX5_kinds 138 = .ok (.goto (-68), 3) := dk_167 255 188 (dk_at dksX5_kinds_5 21 rfl rfl)
theorem dX5_kinds_141 : decode cX5_kinds 141 = .ok (.aload_n 0, 1) := dk_42 (dk_at dksX5_kinds_6 0 rfl rfl)
theorem dX5_kinds_142 : decode cX5_kinds 142 = .ok (.getfield 13, 3) := dk_180 0 13 (dk_at dksX5_kinds_6 1 rfl rfl)
theorem dX5_kinds_145 : decode cX5_kinds 145 = .ok (.iload_n 2, 1) := dk_28 (dk_at dksX5_kinds_6 4 rfl rfl)
theorem dX5_kinds_146 : decode cX5_kinds 146 = .ok (.iload 5, 2) := dk_21 5 (dk_at dksX5_kinds_6 5 rfl rfl)
theorem dX5_kinds_148 : decode cX5_kinds 148 = .ok (.iastore, 1) := dk_79 (dk_at dksX5_kinds_6 7 rfl rfl)
theorem dX5_kinds_149 : decode cX5_kinds 149 = .ok (.aload_n 0, 1) := dk_42 (dk_at dksX5_kinds_6 8 rfl rfl)
theorem dX5_kinds_150 : decode cX5_kinds 150 = .ok (.getfield 16, 3) := dk_180 0 16 (dk_at dksX5_kinds_6 9 rfl rfl)
theorem dX5_kinds_153 : decode cX5_kinds 153 = .ok (.iload_n 2, 1) := dk_28 (dk_at dksX5_kinds_6 12 rfl rfl)
theorem dX5_kinds_154 : decode cX5_kinds 154 = .ok (.iload 6, 2) := dk_21 6 (dk_at dksX5_kinds_6 13 rfl rfl)
theorem dX5_kinds_156 : decode cX5_kinds 156 = .ok (.iastore, 1) := dk_79 (dk_at dksX5_kinds_6 15 rfl rfl)
theorem dX5_kinds_157 : decode cX5_kinds 157 = .ok (.iload 7, 2) := dk_21 7 (dk_at dksX5_kinds_6 16 rfl rfl)
theorem dX5_kinds_159 : decode cX5_kinds 159 = .ok (.ireturn, 1) := dk_172 (dk_at dksX5_kinds_6 18 rfl rfl)
abbrev cX5_odds : ByteArray := prog_17_method_64_code
def yX5_odds : MethodName := ⟨RX5, "odds", "(I)I"⟩
def dkwX5_odds_3 : List UInt8 := [65, 132, 4, 1, 167, 255, 216, 20, 1, 5, 32, 105, 42, 2, 182, 1, 7, 109, 136, 172]
abbrev dktX5_odds_3 : List UInt8 := dkwX5_odds_3 ++ []
def dkwX5_odds_2 : List UInt8 := [21, 4, 182, 0, 117, 42, 180, 0, 56, 27, 46, 2, 159, 0, 13, 32, 42, 21, 4, 2, 182, 1, 1, 97]
abbrev dktX5_odds_2 : List UInt8 := dkwX5_odds_2 ++ dktX5_odds_3
def dkwX5_odds_1 : List UInt8 := [42, 16, 251, 182, 0, 96, 172, 9, 65, 3, 54, 4, 21, 4, 4, 42, 180, 0, 89, 120, 162, 0, 35, 42]
abbrev dktX5_odds_1 : List UInt8 := dkwX5_odds_1 ++ dktX5_odds_2
def dkwX5_odds_0 : List UInt8 := [27, 184, 0, 121, 154, 0, 10, 42, 16, 254, 182, 0, 96, 172, 42, 180, 0, 9, 27, 46, 2, 160, 0, 10]
abbrev dktX5_odds_0 : List UInt8 := dkwX5_odds_0 ++ dktX5_odds_1
theorem dksX5_odds_0 : cX5_odds.data.toList.drop 0 = dktX5_odds_0 := by decide +kernel
theorem dksX5_odds_1 : cX5_odds.data.toList.drop 24 = dktX5_odds_1 := dk_seg dksX5_odds_0 24 rfl rfl
theorem dksX5_odds_2 : cX5_odds.data.toList.drop 48 = dktX5_odds_2 := dk_seg dksX5_odds_1 24 rfl rfl
theorem dksX5_odds_3 : cX5_odds.data.toList.drop 72 = dktX5_odds_3 := dk_seg dksX5_odds_2 24 rfl rfl
theorem dX5_odds_0 : decode cX5_odds 0 = .ok (.iload_n 1, 1) := dk_27 (dk_at dksX5_odds_0 0 rfl rfl)
theorem dX5_odds_1 : decode cX5_odds 1 = .ok (.invokestatic 121, 3) := dk_184 0 121 (dk_at dksX5_odds_0 1 rfl rfl)
theorem dX5_odds_4 : decode cX5_odds 4 = .ok (.ifCond .ne 10, 3) := dk_154 0 10 (dk_at dksX5_odds_0 4 rfl rfl)
theorem dX5_odds_7 : decode cX5_odds 7 = .ok (.aload_n 0, 1) := dk_42 (dk_at dksX5_odds_0 7 rfl rfl)
theorem dX5_odds_8 : decode cX5_odds 8 = .ok (.bipush (-2), 2) := dk_16 254 (dk_at dksX5_odds_0 8 rfl rfl)
theorem dX5_odds_10 : decode cX5_odds 10 = .ok (.invokevirtual 96, 3) := dk_182 0 96 (dk_at dksX5_odds_0 10 rfl rfl)
theorem dX5_odds_13 : decode cX5_odds 13 = .ok (.ireturn, 1) := dk_172 (dk_at dksX5_odds_0 13 rfl rfl)
theorem dX5_odds_14 : decode cX5_odds 14 = .ok (.aload_n 0, 1) := dk_42 (dk_at dksX5_odds_0 14 rfl rfl)
theorem dX5_odds_15 : decode cX5_odds 15 = .ok (.getfield 9, 3) := dk_180 0 9 (dk_at dksX5_odds_0 15 rfl rfl)
theorem dX5_odds_18 : decode cX5_odds 18 = .ok (.iload_n 1, 1) := dk_27 (dk_at dksX5_odds_0 18 rfl rfl)
theorem dX5_odds_19 : decode cX5_odds 19 = .ok (.iaload, 1) := dk_46 (dk_at dksX5_odds_0 19 rfl rfl)
theorem dX5_odds_20 : decode cX5_odds 20 = .ok (.iconst (-1), 1) := dk_2 (dk_at dksX5_odds_0 20 rfl rfl)
theorem dX5_odds_21 : decode cX5_odds 21 = .ok (.if_icmp .ne 10, 3) := dk_160 0 10 (dk_at dksX5_odds_0 21 rfl rfl)
theorem dX5_odds_24 : decode cX5_odds 24 = .ok (.aload_n 0, 1) := dk_42 (dk_at dksX5_odds_1 0 rfl rfl)
theorem dX5_odds_25 : decode cX5_odds 25 = .ok (.bipush (-5), 2) := dk_16 251 (dk_at dksX5_odds_1 1 rfl rfl)
theorem dX5_odds_27 : decode cX5_odds 27 = .ok (.invokevirtual 96, 3) := dk_182 0 96 (dk_at dksX5_odds_1 3 rfl rfl)
theorem dX5_odds_30 : decode cX5_odds 30 = .ok (.ireturn, 1) := dk_172 (dk_at dksX5_odds_1 6 rfl rfl)
theorem dX5_odds_31 : decode cX5_odds 31 = .ok (.lconst 0, 1) := dk_9 (dk_at dksX5_odds_1 7 rfl rfl)
theorem dX5_odds_32 : decode cX5_odds 32 = .ok (.lstore_n 2, 1) := dk_65 (dk_at dksX5_odds_1 8 rfl rfl)
theorem dX5_odds_33 : decode cX5_odds 33 = .ok (.iconst 0, 1) := dk_3 (dk_at dksX5_odds_1 9 rfl rfl)
theorem dX5_odds_34 : decode cX5_odds 34 = .ok (.istore 4, 2) := dk_54 4 (dk_at dksX5_odds_1 10 rfl rfl)
theorem dX5_odds_36 : decode cX5_odds 36 = .ok (.iload 4, 2) := dk_21 4 (dk_at dksX5_odds_1 12 rfl rfl)
theorem dX5_odds_38 : decode cX5_odds 38 = .ok (.iconst 1, 1) := dk_4 (dk_at dksX5_odds_1 14 rfl rfl)
theorem dX5_odds_39 : decode cX5_odds 39 = .ok (.aload_n 0, 1) := dk_42 (dk_at dksX5_odds_1 15 rfl rfl)
theorem dX5_odds_40 : decode cX5_odds 40 = .ok (.getfield 89, 3) := dk_180 0 89 (dk_at dksX5_odds_1 16 rfl rfl)
theorem dX5_odds_43 : decode cX5_odds 43 = .ok (.ishl, 1) := dk_120 (dk_at dksX5_odds_1 19 rfl rfl)
theorem dX5_odds_44 : decode cX5_odds 44 = .ok (.if_icmp .ge 35, 3) := dk_162 0 35 (dk_at dksX5_odds_1 20 rfl rfl)
theorem dX5_odds_47 : decode cX5_odds 47 = .ok (.aload_n 0, 1) := dk_42 (dk_at dksX5_odds_1 23 rfl rfl)
theorem dX5_odds_48 : decode cX5_odds 48 = .ok (.iload 4, 2) := dk_21 4 (dk_at dksX5_odds_2 0 rfl rfl)
theorem dX5_odds_50 : decode cX5_odds 50 = .ok (.invokevirtual 117, 3) := dk_182 0 117 (dk_at dksX5_odds_2 2 rfl rfl)
theorem dX5_odds_53 : decode cX5_odds 53 = .ok (.aload_n 0, 1) := dk_42 (dk_at dksX5_odds_2 5 rfl rfl)
theorem dX5_odds_54 : decode cX5_odds 54 = .ok (.getfield 56, 3) := dk_180 0 56 (dk_at dksX5_odds_2 6 rfl rfl)
theorem dX5_odds_57 : decode cX5_odds 57 = .ok (.iload_n 1, 1) := dk_27 (dk_at dksX5_odds_2 9 rfl rfl)
theorem dX5_odds_58 : decode cX5_odds 58 = .ok (.iaload, 1) := dk_46 (dk_at dksX5_odds_2 10 rfl rfl)
theorem dX5_odds_59 : decode cX5_odds 59 = .ok (.iconst (-1), 1) := dk_2 (dk_at dksX5_odds_2 11 rfl rfl)
theorem dX5_odds_60 : decode cX5_odds 60 = .ok (.if_icmp .eq 13, 3) := dk_159 0 13 (dk_at dksX5_odds_2 12 rfl rfl)
theorem dX5_odds_63 : decode cX5_odds 63 = .ok (.lload_n 2, 1) := dk_32 (dk_at dksX5_odds_2 15 rfl rfl)
theorem dX5_odds_64 : decode cX5_odds 64 = .ok (.aload_n 0, 1) := dk_42 (dk_at dksX5_odds_2 16 rfl rfl)
theorem dX5_odds_65 : decode cX5_odds 65 = .ok (.iload 4, 2) := dk_21 4 (dk_at dksX5_odds_2 17 rfl rfl)
theorem dX5_odds_67 : decode cX5_odds 67 = .ok (.iconst (-1), 1) := dk_2 (dk_at dksX5_odds_2 19 rfl rfl)
theorem dX5_odds_68 : decode cX5_odds 68 = .ok (.invokevirtual 257, 3) := dk_182 1 1 (dk_at dksX5_odds_2 20 rfl rfl)
theorem dX5_odds_71 : decode cX5_odds 71 = .ok (.ladd, 1) := dk_97 (dk_at dksX5_odds_2 23 rfl rfl)
theorem dX5_odds_72 : decode cX5_odds 72 = .ok (.lstore_n 2, 1) := dk_65 (dk_at dksX5_odds_3 0 rfl rfl)
theorem dX5_odds_73 : decode cX5_odds 73 = .ok (.iinc 4 1, 3) := dk_132 4 1 (dk_at dksX5_odds_3 1 rfl rfl)
theorem dX5_odds_76 : decode cX5_odds 76 = .ok (.goto (-40), 3) := dk_167 255 216 (dk_at dksX5_odds_3 4 rfl rfl)
theorem dX5_odds_79 : decode cX5_odds 79 = .ok (.ldc2_w 261, 3) := dk_20 1 5 (dk_at dksX5_odds_3 7 rfl rfl)
theorem dX5_odds_82 : decode cX5_odds 82 = .ok (.lload_n 2, 1) := dk_32 (dk_at dksX5_odds_3 10 rfl rfl)
theorem dX5_odds_83 : decode cX5_odds 83 = .ok (.lmul, 1) := dk_105 (dk_at dksX5_odds_3 11 rfl rfl)
theorem dX5_odds_84 : decode cX5_odds 84 = .ok (.aload_n 0, 1) := dk_42 (dk_at dksX5_odds_3 12 rfl rfl)
theorem dX5_odds_85 : decode cX5_odds 85 = .ok (.iconst (-1), 1) := dk_2 (dk_at dksX5_odds_3 13 rfl rfl)
theorem dX5_odds_86 : decode cX5_odds 86 = .ok (.invokevirtual 263, 3) := dk_182 1 7 (dk_at dksX5_odds_3 14 rfl rfl)
theorem dX5_odds_89 : decode cX5_odds 89 = .ok (.ldiv, 1) := dk_109 (dk_at dksX5_odds_3 17 rfl rfl)
theorem dX5_odds_90 : decode cX5_odds 90 = .ok (.l2i, 1) := dk_136 (dk_at dksX5_odds_3 18 rfl rfl)
theorem dX5_odds_91 : decode cX5_odds 91 = .ok (.ireturn, 1) := dk_172 (dk_at dksX5_odds_3 19 rfl rfl)
abbrev cX5_waysOf : ByteArray := prog_17_method_62_code
def yX5_waysOf : MethodName := ⟨RX5, "waysOf", "(II)J"⟩
def dkwX5_waysOf_2 : List UInt8 := [21, 5, 46, 100, 133, 105, 66, 132, 5, 1, 167, 255, 204, 33, 173]
abbrev dktX5_waysOf_2 : List UInt8 := dkwX5_waysOf_2 ++ []
def dkwX5_waysOf_1 : List UInt8 := [184, 0, 194, 153, 0, 14, 42, 180, 0, 25, 21, 5, 46, 133, 167, 0, 14, 16, 12, 42, 180, 0, 25]
abbrev dktX5_waysOf_1 : List UInt8 := dkwX5_waysOf_1 ++ dktX5_waysOf_2
def dkwX5_waysOf_0 : List UInt8 := [10, 66, 3, 54, 5, 21, 5, 42, 180, 0, 89, 162, 0, 49, 21, 5, 28, 159, 0, 37, 33, 27, 21, 5]
abbrev dktX5_waysOf_0 : List UInt8 := dkwX5_waysOf_0 ++ dktX5_waysOf_1
theorem dksX5_waysOf_0 : cX5_waysOf.data.toList.drop 0 = dktX5_waysOf_0 := by decide +kernel
theorem dksX5_waysOf_1 : cX5_waysOf.data.toList.drop 24 = dktX5_waysOf_1 := dk_seg dksX5_waysOf_0 24 rfl rfl
theorem dksX5_waysOf_2 : cX5_waysOf.data.toList.drop 47 = dktX5_waysOf_2 := dk_seg dksX5_waysOf_1 23 rfl rfl
theorem dX5_waysOf_0 : decode cX5_waysOf 0 = .ok (.lconst 1, 1) := dk_10 (dk_at dksX5_waysOf_0 0 rfl rfl)
theorem dX5_waysOf_1 : decode cX5_waysOf 1 = .ok (.lstore_n 3, 1) := dk_66 (dk_at dksX5_waysOf_0 1 rfl rfl)
theorem dX5_waysOf_2 : decode cX5_waysOf 2 = .ok (.iconst 0, 1) := dk_3 (dk_at dksX5_waysOf_0 2 rfl rfl)
theorem dX5_waysOf_3 : decode cX5_waysOf 3 = .ok (.istore 5, 2) := dk_54 5 (dk_at dksX5_waysOf_0 3 rfl rfl)
theorem dX5_waysOf_5 : decode cX5_waysOf 5 = .ok (.iload 5, 2) := dk_21 5 (dk_at dksX5_waysOf_0 5 rfl rfl)
theorem dX5_waysOf_7 : decode cX5_waysOf 7 = .ok (.aload_n 0, 1) := dk_42 (dk_at dksX5_waysOf_0 7 rfl rfl)
theorem dX5_waysOf_8 : decode cX5_waysOf 8 = .ok (.getfield 89, 3) := dk_180 0 89 (dk_at dksX5_waysOf_0 8 rfl rfl)
theorem dX5_waysOf_11 : decode cX5_waysOf 11 = .ok (.if_icmp .ge 49, 3) := dk_162 0 49 (dk_at dksX5_waysOf_0 11 rfl rfl)
theorem dX5_waysOf_14 : decode cX5_waysOf 14 = .ok (.iload 5, 2) := dk_21 5 (dk_at dksX5_waysOf_0 14 rfl rfl)
theorem dX5_waysOf_16 : decode cX5_waysOf 16 = .ok (.iload_n 2, 1) := dk_28 (dk_at dksX5_waysOf_0 16 rfl rfl)
theorem dX5_waysOf_17 : decode cX5_waysOf 17 = .ok (.if_icmp .eq 37, 3) := dk_159 0 37 (dk_at dksX5_waysOf_0 17 rfl rfl)
theorem dX5_waysOf_20 : decode cX5_waysOf 20 = .ok (.lload_n 3, 1) := dk_33 (dk_at dksX5_waysOf_0 20 rfl rfl)
theorem dX5_waysOf_21 : decode cX5_waysOf 21 = .ok (.iload_n 1, 1) := dk_27 (dk_at dksX5_waysOf_0 21 rfl rfl)
theorem dX5_waysOf_22 : decode cX5_waysOf 22 = .ok (.iload 5, 2) := dk_21 5 (dk_at dksX5_waysOf_0 22 rfl rfl)
theorem dX5_waysOf_24 : decode cX5_waysOf 24 = .ok (.invokestatic 194, 3) := dk_184 0 194 (dk_at dksX5_waysOf_1 0 rfl rfl)
theorem dX5_waysOf_27 : decode cX5_waysOf 27 = .ok (.ifCond .eq 14, 3) := dk_153 0 14 (dk_at dksX5_waysOf_1 3 rfl rfl)
theorem dX5_waysOf_30 : decode cX5_waysOf 30 = .ok (.aload_n 0, 1) := dk_42 (dk_at dksX5_waysOf_1 6 rfl rfl)
theorem dX5_waysOf_31 : decode cX5_waysOf 31 = .ok (.getfield 25, 3) := dk_180 0 25 (dk_at dksX5_waysOf_1 7 rfl rfl)
theorem dX5_waysOf_34 : decode cX5_waysOf 34 = .ok (.iload 5, 2) := dk_21 5 (dk_at dksX5_waysOf_1 10 rfl rfl)
theorem dX5_waysOf_36 : decode cX5_waysOf 36 = .ok (.iaload, 1) := dk_46 (dk_at dksX5_waysOf_1 12 rfl rfl)
theorem dX5_waysOf_37 : decode cX5_waysOf 37 = .ok (.i2l, 1) := dk_133 (dk_at dksX5_waysOf_1 13 rfl rfl)
theorem dX5_waysOf_38 : decode cX5_waysOf 38 = .ok (.goto 14, 3) := dk_167 0 14 (dk_at dksX5_waysOf_1 14 rfl rfl)
theorem dX5_waysOf_41 : decode cX5_waysOf 41 = .ok (.bipush 12, 2) := dk_16 12 (dk_at dksX5_waysOf_1 17 rfl rfl)
theorem dX5_waysOf_43 : decode cX5_waysOf 43 = .ok (.aload_n 0, 1) := dk_42 (dk_at dksX5_waysOf_1 19 rfl rfl)
theorem dX5_waysOf_44 : decode cX5_waysOf 44 = .ok (.getfield 25, 3) := dk_180 0 25 (dk_at dksX5_waysOf_1 20 rfl rfl)
theorem dX5_waysOf_47 : decode cX5_waysOf 47 = .ok (.iload 5, 2) := dk_21 5 (dk_at dksX5_waysOf_2 0 rfl rfl)
theorem dX5_waysOf_49 : decode cX5_waysOf 49 = .ok (.iaload, 1) := dk_46 (dk_at dksX5_waysOf_2 2 rfl rfl)
theorem dX5_waysOf_50 : decode cX5_waysOf 50 = .ok (.isub, 1) := dk_100 (dk_at dksX5_waysOf_2 3 rfl rfl)
theorem dX5_waysOf_51 : decode cX5_waysOf 51 = .ok (.i2l, 1) := dk_133 (dk_at dksX5_waysOf_2 4 rfl rfl)
theorem dX5_waysOf_52 : decode cX5_waysOf 52 = .ok (.lmul, 1) := dk_105 (dk_at dksX5_waysOf_2 5 rfl rfl)
theorem dX5_waysOf_53 : decode cX5_waysOf 53 = .ok (.lstore_n 3, 1) := dk_66 (dk_at dksX5_waysOf_2 6 rfl rfl)
theorem dX5_waysOf_54 : decode cX5_waysOf 54 = .ok (.iinc 5 1, 3) := dk_132 5 1 (dk_at dksX5_waysOf_2 7 rfl rfl)
theorem dX5_waysOf_57 : decode cX5_waysOf 57 = .ok (.goto (-52), 3) := dk_167 255 204 (dk_at dksX5_waysOf_2 10 rfl rfl)
theorem dX5_waysOf_60 : decode cX5_waysOf 60 = .ok (.lload_n 3, 1) := dk_33 (dk_at dksX5_waysOf_2 13 rfl rfl)
theorem dX5_waysOf_61 : decode cX5_waysOf 61 = .ok (.lreturn, 1) := dk_173 (dk_at dksX5_waysOf_2 14 rfl rfl)
abbrev cX5_allWays : ByteArray := prog_17_method_63_code
def yX5_allWays : MethodName := ⟨RX5, "allWays", "(I)J"⟩
def dkwX5_allWays_1 : List UInt8 := [105, 65, 132, 4, 1, 167, 255, 232, 32, 173]
abbrev dktX5_allWays_1 : List UInt8 := dkwX5_allWays_1 ++ []
def dkwX5_allWays_0 : List UInt8 := [10, 65, 3, 54, 4, 21, 4, 42, 180, 0, 89, 162, 0, 21, 21, 4, 27, 159, 0, 9, 32, 20, 0, 255]
abbrev dktX5_allWays_0 : List UInt8 := dkwX5_allWays_0 ++ dktX5_allWays_1
theorem dksX5_allWays_0 : cX5_allWays.data.toList.drop 0 = dktX5_allWays_0 := by decide +kernel
theorem dksX5_allWays_1 : cX5_allWays.data.toList.drop 24 = dktX5_allWays_1 := dk_seg dksX5_allWays_0 24 rfl rfl
theorem dX5_allWays_0 : decode cX5_allWays 0 = .ok (.lconst 1, 1) := dk_10 (dk_at dksX5_allWays_0 0 rfl rfl)
theorem dX5_allWays_1 : decode cX5_allWays 1 = .ok (.lstore_n 2, 1) := dk_65 (dk_at dksX5_allWays_0 1 rfl rfl)
theorem dX5_allWays_2 : decode cX5_allWays 2 = .ok (.iconst 0, 1) := dk_3 (dk_at dksX5_allWays_0 2 rfl rfl)
theorem dX5_allWays_3 : decode cX5_allWays 3 = .ok (.istore 4, 2) := dk_54 4 (dk_at dksX5_allWays_0 3 rfl rfl)
theorem dX5_allWays_5 : decode cX5_allWays 5 = .ok (.iload 4, 2) := dk_21 4 (dk_at dksX5_allWays_0 5 rfl rfl)
theorem dX5_allWays_7 : decode cX5_allWays 7 = .ok (.aload_n 0, 1) := dk_42 (dk_at dksX5_allWays_0 7 rfl rfl)
theorem dX5_allWays_8 : decode cX5_allWays 8 = .ok (.getfield 89, 3) := dk_180 0 89 (dk_at dksX5_allWays_0 8 rfl rfl)
theorem dX5_allWays_11 : decode cX5_allWays 11 = .ok (.if_icmp .ge 21, 3) := dk_162 0 21 (dk_at dksX5_allWays_0 11 rfl rfl)
theorem dX5_allWays_14 : decode cX5_allWays 14 = .ok (.iload 4, 2) := dk_21 4 (dk_at dksX5_allWays_0 14 rfl rfl)
theorem dX5_allWays_16 : decode cX5_allWays 16 = .ok (.iload_n 1, 1) := dk_27 (dk_at dksX5_allWays_0 16 rfl rfl)
theorem dX5_allWays_17 : decode cX5_allWays 17 = .ok (.if_icmp .eq 9, 3) := dk_159 0 9 (dk_at dksX5_allWays_0 17 rfl rfl)
theorem dX5_allWays_20 : decode cX5_allWays 20 = .ok (.lload_n 2, 1) := dk_32 (dk_at dksX5_allWays_0 20 rfl rfl)
theorem dX5_allWays_21 : decode cX5_allWays 21 = .ok (.ldc2_w 255, 3) := dk_20 0 255 (dk_at dksX5_allWays_0 21 rfl rfl)
theorem dX5_allWays_24 : decode cX5_allWays 24 = .ok (.lmul, 1) := dk_105 (dk_at dksX5_allWays_1 0 rfl rfl)
theorem dX5_allWays_25 : decode cX5_allWays 25 = .ok (.lstore_n 2, 1) := dk_65 (dk_at dksX5_allWays_1 1 rfl rfl)
theorem dX5_allWays_26 : decode cX5_allWays 26 = .ok (.iinc 4 1, 3) := dk_132 4 1 (dk_at dksX5_allWays_1 2 rfl rfl)
theorem dX5_allWays_29 : decode cX5_allWays 29 = .ok (.goto (-24), 3) := dk_167 255 232 (dk_at dksX5_allWays_1 5 rfl rfl)
theorem dX5_allWays_32 : decode cX5_allWays 32 = .ok (.lload_n 2, 1) := dk_32 (dk_at dksX5_allWays_1 8 rfl rfl)
theorem dX5_allWays_33 : decode cX5_allWays 33 = .ok (.lreturn, 1) := dk_173 (dk_at dksX5_allWays_1 9 rfl rfl)
abbrev cX5_likely : ByteArray := prog_17_method_65_code
def yX5_likely : MethodName := ⟨RX5, "likely", "(I)I"⟩
def dkwX5_likely_3 : List UInt8 := [167, 255, 206, 20, 1, 5, 32, 105, 42, 27, 182, 1, 7, 109, 136, 172]
abbrev dktX5_likely_3 : List UInt8 := dkwX5_likely_3 ++ []
def dkwX5_likely_2 : List UInt8 := [182, 0, 117, 42, 27, 182, 0, 231, 153, 0, 13, 32, 42, 21, 4, 27, 182, 1, 1, 97, 65, 132, 4, 1]
abbrev dktX5_likely_2 : List UInt8 := dkwX5_likely_2 ++ dktX5_likely_3
def dkwX5_likely_1 : List UInt8 := [180, 0, 89, 120, 162, 0, 45, 21, 4, 27, 184, 0, 194, 154, 0, 6, 167, 0, 27, 42, 21, 4]
abbrev dktX5_likely_1 : List UInt8 := dkwX5_likely_1 ++ dktX5_likely_2
def dkwX5_likely_0 : List UInt8 := [42, 27, 182, 0, 110, 154, 0, 10, 42, 16, 254, 182, 0, 96, 172, 9, 65, 3, 54, 4, 21, 4, 4, 42]
abbrev dktX5_likely_0 : List UInt8 := dkwX5_likely_0 ++ dktX5_likely_1
theorem dksX5_likely_0 : cX5_likely.data.toList.drop 0 = dktX5_likely_0 := by decide +kernel
theorem dksX5_likely_1 : cX5_likely.data.toList.drop 24 = dktX5_likely_1 := dk_seg dksX5_likely_0 24 rfl rfl
theorem dksX5_likely_2 : cX5_likely.data.toList.drop 46 = dktX5_likely_2 := dk_seg dksX5_likely_1 22 rfl rfl
theorem dksX5_likely_3 : cX5_likely.data.toList.drop 70 = dktX5_likely_3 := dk_seg dksX5_likely_2 24 rfl rfl
theorem dX5_likely_0 : decode cX5_likely 0 = .ok (.aload_n 0, 1) := dk_42 (dk_at dksX5_likely_0 0 rfl rfl)
theorem dX5_likely_1 : decode cX5_likely 1 = .ok (.iload_n 1, 1) := dk_27 (dk_at dksX5_likely_0 1 rfl rfl)
theorem dX5_likely_2 : decode cX5_likely 2 = .ok (.invokevirtual 110, 3) := dk_182 0 110 (dk_at dksX5_likely_0 2 rfl rfl)
theorem dX5_likely_5 : decode cX5_likely 5 = .ok (.ifCond .ne 10, 3) := dk_154 0 10 (dk_at dksX5_likely_0 5 rfl rfl)
theorem dX5_likely_8 : decode cX5_likely 8 = .ok (.aload_n 0, 1) := dk_42 (dk_at dksX5_likely_0 8 rfl rfl)
theorem dX5_likely_9 : decode cX5_likely 9 = .ok (.bipush (-2), 2) := dk_16 254 (dk_at dksX5_likely_0 9 rfl rfl)
theorem dX5_likely_11 : decode cX5_likely 11 = .ok (.invokevirtual 96, 3) := dk_182 0 96 (dk_at dksX5_likely_0 11 rfl rfl)
theorem dX5_likely_14 : decode cX5_likely 14 = .ok (.ireturn, 1) := dk_172 (dk_at dksX5_likely_0 14 rfl rfl)
theorem dX5_likely_15 : decode cX5_likely 15 = .ok (.lconst 0, 1) := dk_9 (dk_at dksX5_likely_0 15 rfl rfl)
theorem dX5_likely_16 : decode cX5_likely 16 = .ok (.lstore_n 2, 1) := dk_65 (dk_at dksX5_likely_0 16 rfl rfl)
theorem dX5_likely_17 : decode cX5_likely 17 = .ok (.iconst 0, 1) := dk_3 (dk_at dksX5_likely_0 17 rfl rfl)
theorem dX5_likely_18 : decode cX5_likely 18 = .ok (.istore 4, 2) := dk_54 4 (dk_at dksX5_likely_0 18 rfl rfl)
theorem dX5_likely_20 : decode cX5_likely 20 = .ok (.iload 4, 2) := dk_21 4 (dk_at dksX5_likely_0 20 rfl rfl)
theorem dX5_likely_22 : decode cX5_likely 22 = .ok (.iconst 1, 1) := dk_4 (dk_at dksX5_likely_0 22 rfl rfl)
theorem dX5_likely_23 : decode cX5_likely 23 = .ok (.aload_n 0, 1) := dk_42 (dk_at dksX5_likely_0 23 rfl rfl)
theorem dX5_likely_24 : decode cX5_likely 24 = .ok (.getfield 89, 3) := dk_180 0 89 (dk_at dksX5_likely_1 0 rfl rfl)
theorem dX5_likely_27 : decode cX5_likely 27 = .ok (.ishl, 1) := dk_120 (dk_at dksX5_likely_1 3 rfl rfl)
theorem dX5_likely_28 : decode cX5_likely 28 = .ok (.if_icmp .ge 45, 3) := dk_162 0 45 (dk_at dksX5_likely_1 4 rfl rfl)
theorem dX5_likely_31 : decode cX5_likely 31 = .ok (.iload 4, 2) := dk_21 4 (dk_at dksX5_likely_1 7 rfl rfl)
theorem dX5_likely_33 : decode cX5_likely 33 = .ok (.iload_n 1, 1) := dk_27 (dk_at dksX5_likely_1 9 rfl rfl)
theorem dX5_likely_34 : decode cX5_likely 34 = .ok (.invokestatic 194, 3) := dk_184 0 194 (dk_at dksX5_likely_1 10 rfl rfl)
theorem dX5_likely_37 : decode cX5_likely 37 = .ok (.ifCond .ne 6, 3) := dk_154 0 6 (dk_at dksX5_likely_1 13 rfl rfl)
theorem dX5_likely_40 : decode cX5_likely 40 = .ok (.goto 27, 3) := dk_167 0 27 (dk_at dksX5_likely_1 16 rfl rfl)
theorem dX5_likely_43 : decode cX5_likely 43 = .ok (.aload_n 0, 1) := dk_42 (dk_at dksX5_likely_1 19 rfl rfl)
theorem dX5_likely_44 : decode cX5_likely 44 = .ok (.iload 4, 2) := dk_21 4 (dk_at dksX5_likely_1 20 rfl rfl)
theorem dX5_likely_46 : decode cX5_likely 46 = .ok (.invokevirtual 117, 3) := dk_182 0 117 (dk_at dksX5_likely_2 0 rfl rfl)
theorem dX5_likely_49 : decode cX5_likely 49 = .ok (.aload_n 0, 1) := dk_42 (dk_at dksX5_likely_2 3 rfl rfl)
theorem dX5_likely_50 : decode cX5_likely 50 = .ok (.iload_n 1, 1) := dk_27 (dk_at dksX5_likely_2 4 rfl rfl)
theorem dX5_likely_51 : decode cX5_likely 51 = .ok (.invokevirtual 231, 3) := dk_182 0 231 (dk_at dksX5_likely_2 5 rfl rfl)
theorem dX5_likely_54 : decode cX5_likely 54 = .ok (.ifCond .eq 13, 3) := dk_153 0 13 (dk_at dksX5_likely_2 8 rfl rfl)
theorem dX5_likely_57 : decode cX5_likely 57 = .ok (.lload_n 2, 1) := dk_32 (dk_at dksX5_likely_2 11 rfl rfl)
theorem dX5_likely_58 : decode cX5_likely 58 = .ok (.aload_n 0, 1) := dk_42 (dk_at dksX5_likely_2 12 rfl rfl)
theorem dX5_likely_59 : decode cX5_likely 59 = .ok (.iload 4, 2) := dk_21 4 (dk_at dksX5_likely_2 13 rfl rfl)
theorem dX5_likely_61 : decode cX5_likely 61 = .ok (.iload_n 1, 1) := dk_27 (dk_at dksX5_likely_2 15 rfl rfl)
theorem dX5_likely_62 : decode cX5_likely 62 = .ok (.invokevirtual 257, 3) := dk_182 1 1 (dk_at dksX5_likely_2 16 rfl rfl)
theorem dX5_likely_65 : decode cX5_likely 65 = .ok (.ladd, 1) := dk_97 (dk_at dksX5_likely_2 19 rfl rfl)
theorem dX5_likely_66 : decode cX5_likely 66 = .ok (.lstore_n 2, 1) := dk_65 (dk_at dksX5_likely_2 20 rfl rfl)
theorem dX5_likely_67 : decode cX5_likely 67 = .ok (.iinc 4 1, 3) := dk_132 4 1 (dk_at dksX5_likely_2 21 rfl rfl)
theorem dX5_likely_70 : decode cX5_likely 70 = .ok (.goto (-50), 3) := dk_167 255 206 (dk_at dksX5_likely_3 0 rfl rfl)
theorem dX5_likely_73 : decode cX5_likely 73 = .ok (.ldc2_w 261, 3) := dk_20 1 5 (dk_at dksX5_likely_3 3 rfl rfl)
theorem dX5_likely_76 : decode cX5_likely 76 = .ok (.lload_n 2, 1) := dk_32 (dk_at dksX5_likely_3 6 rfl rfl)
theorem dX5_likely_77 : decode cX5_likely 77 = .ok (.lmul, 1) := dk_105 (dk_at dksX5_likely_3 7 rfl rfl)
theorem dX5_likely_78 : decode cX5_likely 78 = .ok (.aload_n 0, 1) := dk_42 (dk_at dksX5_likely_3 8 rfl rfl)
theorem dX5_likely_79 : decode cX5_likely 79 = .ok (.iload_n 1, 1) := dk_27 (dk_at dksX5_likely_3 9 rfl rfl)
theorem dX5_likely_80 : decode cX5_likely 80 = .ok (.invokevirtual 263, 3) := dk_182 1 7 (dk_at dksX5_likely_3 10 rfl rfl)
theorem dX5_likely_83 : decode cX5_likely 83 = .ok (.ldiv, 1) := dk_109 (dk_at dksX5_likely_3 13 rfl rfl)
theorem dX5_likely_84 : decode cX5_likely 84 = .ok (.l2i, 1) := dk_136 (dk_at dksX5_likely_3 14 rfl rfl)
theorem dX5_likely_85 : decode cX5_likely 85 = .ok (.ireturn, 1) := dk_172 (dk_at dksX5_likely_3 15 rfl rfl)
abbrev cX5_gladOdds : ByteArray := prog_17_method_66_code
def yX5_gladOdds : MethodName := ⟨RX5, "gladOdds", "(I)I"⟩
def dkwX5_gladOdds_2 : List UInt8 := [182, 1, 1, 97, 65, 132, 4, 1, 167, 255, 222, 20, 1, 5, 32, 105, 42, 2, 182, 1, 7, 109, 136, 172]
abbrev dktX5_gladOdds_2 : List UInt8 := dkwX5_gladOdds_2 ++ []
def dkwX5_gladOdds_1 : List UInt8 := [4, 42, 180, 0, 89, 120, 162, 0, 29, 42, 21, 4, 182, 0, 240, 27, 161, 0, 13, 32, 42, 21, 4, 2]
abbrev dktX5_gladOdds_1 : List UInt8 := dkwX5_gladOdds_1 ++ dktX5_gladOdds_2
def dkwX5_gladOdds_0 : List UInt8 := [27, 3, 16, 8, 184, 0, 85, 154, 0, 10, 42, 16, 254, 182, 0, 96, 172, 9, 65, 3, 54, 4, 21, 4]
abbrev dktX5_gladOdds_0 : List UInt8 := dkwX5_gladOdds_0 ++ dktX5_gladOdds_1
theorem dksX5_gladOdds_0 : cX5_gladOdds.data.toList.drop 0 = dktX5_gladOdds_0 := by decide +kernel
theorem dksX5_gladOdds_1 : cX5_gladOdds.data.toList.drop 24 = dktX5_gladOdds_1 := dk_seg dksX5_gladOdds_0 24 rfl rfl
theorem dksX5_gladOdds_2 : cX5_gladOdds.data.toList.drop 48 = dktX5_gladOdds_2 := dk_seg dksX5_gladOdds_1 24 rfl rfl
theorem dX5_gladOdds_0 : decode cX5_gladOdds 0 = .ok (.iload_n 1, 1) := dk_27 (dk_at dksX5_gladOdds_0 0 rfl rfl)
theorem dX5_gladOdds_1 : decode cX5_gladOdds 1 = .ok (.iconst 0, 1) := dk_3 (dk_at dksX5_gladOdds_0 1 rfl rfl)
theorem dX5_gladOdds_2 : decode cX5_gladOdds 2 = .ok (.bipush 8, 2) := dk_16 8 (dk_at dksX5_gladOdds_0 2 rfl rfl)
theorem dX5_gladOdds_4 : decode cX5_gladOdds 4 = .ok (.invokestatic 85, 3) := dk_184 0 85 (dk_at dksX5_gladOdds_0 4 rfl rfl)
theorem dX5_gladOdds_7 : decode cX5_gladOdds 7 = .ok (.ifCond .ne 10, 3) := dk_154 0 10 (dk_at dksX5_gladOdds_0 7 rfl rfl)
theorem dX5_gladOdds_10 : decode cX5_gladOdds 10 = .ok (.aload_n 0, 1) := dk_42 (dk_at dksX5_gladOdds_0 10 rfl rfl)
theorem dX5_gladOdds_11 : decode cX5_gladOdds 11 = .ok (.bipush (-2), 2) := dk_16 254 (dk_at dksX5_gladOdds_0 11 rfl rfl)
theorem dX5_gladOdds_13 : decode cX5_gladOdds 13 = .ok (.invokevirtual 96, 3) := dk_182 0 96 (dk_at dksX5_gladOdds_0 13 rfl rfl)
theorem dX5_gladOdds_16 : decode cX5_gladOdds 16 = .ok (.ireturn, 1) := dk_172 (dk_at dksX5_gladOdds_0 16 rfl rfl)
theorem dX5_gladOdds_17 : decode cX5_gladOdds 17 = .ok (.lconst 0, 1) := dk_9 (dk_at dksX5_gladOdds_0 17 rfl rfl)
theorem dX5_gladOdds_18 : decode cX5_gladOdds 18 = .ok (.lstore_n 2, 1) := dk_65 (dk_at dksX5_gladOdds_0 18 rfl rfl)
theorem dX5_gladOdds_19 : decode cX5_gladOdds 19 = .ok (.iconst 0, 1) := dk_3 (dk_at dksX5_gladOdds_0 19 rfl rfl)
theorem dX5_gladOdds_20 : decode cX5_gladOdds 20 = .ok (.istore 4, 2) := dk_54 4 (dk_at dksX5_gladOdds_0 20 rfl rfl)
theorem dX5_gladOdds_22 : decode cX5_gladOdds 22 = .ok (.iload 4, 2) := dk_21 4 (dk_at dksX5_gladOdds_0 22 rfl rfl)
theorem dX5_gladOdds_24 : decode cX5_gladOdds 24 = .ok (.iconst 1, 1) := dk_4 (dk_at dksX5_gladOdds_1 0 rfl rfl)
theorem dX5_gladOdds_25 : decode cX5_gladOdds 25 = .ok (.aload_n 0, 1) := dk_42 (dk_at dksX5_gladOdds_1 1 rfl rfl)
theorem dX5_gladOdds_26 : decode cX5_gladOdds 26 = .ok (.getfield 89, 3) := dk_180 0 89 (dk_at dksX5_gladOdds_1 2 rfl rfl)
theorem dX5_gladOdds_29 : decode cX5_gladOdds 29 = .ok (.ishl, 1) := dk_120 (dk_at dksX5_gladOdds_1 5 rfl rfl)
theorem dX5_gladOdds_30 : decode cX5_gladOdds 30 = .ok (.if_icmp .ge 29, 3) := dk_162 0 29 (dk_at dksX5_gladOdds_1 6 rfl rfl)
theorem dX5_gladOdds_33 : decode cX5_gladOdds 33 = .ok (.aload_n 0, 1) := dk_42 (dk_at dksX5_gladOdds_1 9 rfl rfl)
theorem dX5_gladOdds_34 : decode cX5_gladOdds 34 = .ok (.iload 4, 2) := dk_21 4 (dk_at dksX5_gladOdds_1 10 rfl rfl)
theorem dX5_gladOdds_36 : decode cX5_gladOdds 36 = .ok (.invokevirtual 240, 3) := dk_182 0 240 (dk_at dksX5_gladOdds_1 12 rfl rfl)
theorem dX5_gladOdds_39 : decode cX5_gladOdds 39 = .ok (.iload_n 1, 1) := dk_27 (dk_at dksX5_gladOdds_1 15 rfl rfl)
theorem dX5_gladOdds_40 : decode cX5_gladOdds 40 = .ok (.if_icmp .lt 13, 3) := dk_161 0 13 (dk_at dksX5_gladOdds_1 16 rfl rfl)
theorem dX5_gladOdds_43 : decode cX5_gladOdds 43 = .ok (.lload_n 2, 1) := dk_32 (dk_at dksX5_gladOdds_1 19 rfl rfl)
theorem dX5_gladOdds_44 : decode cX5_gladOdds 44 = .ok (.aload_n 0, 1) := dk_42 (dk_at dksX5_gladOdds_1 20 rfl rfl)
theorem dX5_gladOdds_45 : decode cX5_gladOdds 45 = .ok (.iload 4, 2) := dk_21 4 (dk_at dksX5_gladOdds_1 21 rfl rfl)
theorem dX5_gladOdds_47 : decode cX5_gladOdds 47 = .ok (.iconst (-1), 1) := dk_2 (dk_at dksX5_gladOdds_1 23 rfl rfl)
theorem dX5_gladOdds_48 : decode cX5_gladOdds 48 = .ok (.invokevirtual 257, 3) := dk_182 1 1 (dk_at dksX5_gladOdds_2 0 rfl rfl)
theorem dX5_gladOdds_51 : decode cX5_gladOdds 51 = .ok (.ladd, 1) := dk_97 (dk_at dksX5_gladOdds_2 3 rfl rfl)
theorem dX5_gladOdds_52 : decode cX5_gladOdds 52 = .ok (.lstore_n 2, 1) := dk_65 (dk_at dksX5_gladOdds_2 4 rfl rfl)
theorem dX5_gladOdds_53 : decode cX5_gladOdds 53 = .ok (.iinc 4 1, 3) := dk_132 4 1 (dk_at dksX5_gladOdds_2 5 rfl rfl)
theorem dX5_gladOdds_56 : decode cX5_gladOdds 56 = .ok (.goto (-34), 3) := dk_167 255 222 (dk_at dksX5_gladOdds_2 8 rfl rfl)
theorem dX5_gladOdds_59 : decode cX5_gladOdds 59 = .ok (.ldc2_w 261, 3) := dk_20 1 5 (dk_at dksX5_gladOdds_2 11 rfl rfl)
theorem dX5_gladOdds_62 : decode cX5_gladOdds 62 = .ok (.lload_n 2, 1) := dk_32 (dk_at dksX5_gladOdds_2 14 rfl rfl)
theorem dX5_gladOdds_63 : decode cX5_gladOdds 63 = .ok (.lmul, 1) := dk_105 (dk_at dksX5_gladOdds_2 15 rfl rfl)
theorem dX5_gladOdds_64 : decode cX5_gladOdds 64 = .ok (.aload_n 0, 1) := dk_42 (dk_at dksX5_gladOdds_2 16 rfl rfl)
theorem dX5_gladOdds_65 : decode cX5_gladOdds 65 = .ok (.iconst (-1), 1) := dk_2 (dk_at dksX5_gladOdds_2 17 rfl rfl)
theorem dX5_gladOdds_66 : decode cX5_gladOdds 66 = .ok (.invokevirtual 263, 3) := dk_182 1 7 (dk_at dksX5_gladOdds_2 18 rfl rfl)
theorem dX5_gladOdds_69 : decode cX5_gladOdds 69 = .ok (.ldiv, 1) := dk_109 (dk_at dksX5_gladOdds_2 21 rfl rfl)
theorem dX5_gladOdds_70 : decode cX5_gladOdds 70 = .ok (.l2i, 1) := dk_136 (dk_at dksX5_gladOdds_2 22 rfl rfl)
theorem dX5_gladOdds_71 : decode cX5_gladOdds 71 = .ok (.ireturn, 1) := dk_172 (dk_at dksX5_gladOdds_2 23 rfl rfl)
