set_option maxRecDepth 100000
abbrev cX5_init : ByteArray := prog_17_method_1_code
def yX5_init : MethodName := ⟨RX5, "<init>", "()V"⟩
def dkwX5_init_10 : List UInt8 := [167, 255, 240, 177]
abbrev dktX5_init_10 : List UInt8 := dkwX5_init_10 ++ []
def dkwX5_init_9 : List UInt8 := [42, 4, 181, 0, 81, 3, 60, 27, 16, 8, 162, 0, 16, 42, 180, 0, 37, 27, 2, 79, 132, 1, 1]
abbrev dktX5_init_9 : List UInt8 := dkwX5_init_9 ++ dktX5_init_10
def dkwX5_init_8 : List UInt8 := [181, 0, 78, 3, 60, 27, 16, 12, 162, 0, 16, 42, 180, 0, 9, 27, 2, 79, 132, 1, 1, 167, 255, 240]
abbrev dktX5_init_8 : List UInt8 := dkwX5_init_8 ++ dktX5_init_9
def dkwX5_init_7 : List UInt8 := [181, 0, 68, 42, 16, 8, 188, 4, 181, 0, 71, 42, 16, 8, 188, 10, 181, 0, 75, 42, 6, 188, 10]
abbrev dktX5_init_7 : List UInt8 := dkwX5_init_7 ++ dktX5_init_8
def dkwX5_init_6 : List UInt8 := [181, 0, 59, 42, 16, 8, 188, 10, 181, 0, 62, 42, 16, 8, 188, 10, 181, 0, 65, 42, 16, 8, 188, 10]
abbrev dktX5_init_6 : List UInt8 := dkwX5_init_6 ++ dktX5_init_7
def dkwX5_init_5 : List UInt8 := [181, 0, 50, 42, 16, 127, 188, 10, 181, 0, 53, 42, 16, 12, 188, 10, 181, 0, 56, 42, 16, 8, 188, 10]
abbrev dktX5_init_5 : List UInt8 := dkwX5_init_5 ++ dktX5_init_6
def dkwX5_init_4 : List UInt8 := [42, 17, 1, 64, 188, 11, 181, 0, 43, 42, 16, 7, 188, 10, 181, 0, 47, 42, 16, 127, 188, 10]
abbrev dktX5_init_4 : List UInt8 := dkwX5_init_4 ++ dktX5_init_5
def dkwX5_init_3 : List UInt8 := [17, 0, 250, 188, 10, 181, 0, 34, 42, 16, 8, 188, 10, 181, 0, 37, 42, 16, 8, 188, 10, 181, 0, 40]
abbrev dktX5_init_3 : List UInt8 := dkwX5_init_3 ++ dktX5_init_4
def dkwX5_init_2 : List UInt8 := [188, 10, 181, 0, 25, 42, 16, 8, 188, 10, 181, 0, 28, 42, 16, 64, 188, 10, 181, 0, 31, 42]
abbrev dktX5_init_2 : List UInt8 := dkwX5_init_2 ++ dktX5_init_3
def dkwX5_init_1 : List UInt8 := [188, 10, 181, 0, 16, 42, 16, 8, 188, 10, 181, 0, 19, 42, 16, 8, 188, 10, 181, 0, 22, 42, 16, 8]
abbrev dktX5_init_1 : List UInt8 := dkwX5_init_1 ++ dktX5_init_2
def dkwX5_init_0 : List UInt8 := [42, 183, 0, 1, 42, 16, 12, 188, 10, 181, 0, 9, 42, 16, 8, 188, 10, 181, 0, 13, 42, 16, 8]
abbrev dktX5_init_0 : List UInt8 := dkwX5_init_0 ++ dktX5_init_1
theorem dksX5_init_0 : cX5_init.data.toList.drop 0 = dktX5_init_0 := by decide +kernel
theorem dksX5_init_1 : cX5_init.data.toList.drop 23 = dktX5_init_1 := dk_seg dksX5_init_0 23 rfl rfl
theorem dksX5_init_2 : cX5_init.data.toList.drop 47 = dktX5_init_2 := dk_seg dksX5_init_1 24 rfl rfl
theorem dksX5_init_3 : cX5_init.data.toList.drop 69 = dktX5_init_3 := dk_seg dksX5_init_2 22 rfl rfl
theorem dksX5_init_4 : cX5_init.data.toList.drop 93 = dktX5_init_4 := dk_seg dksX5_init_3 24 rfl rfl
theorem dksX5_init_5 : cX5_init.data.toList.drop 115 = dktX5_init_5 := dk_seg dksX5_init_4 22 rfl rfl
theorem dksX5_init_6 : cX5_init.data.toList.drop 139 = dktX5_init_6 := dk_seg dksX5_init_5 24 rfl rfl
theorem dksX5_init_7 : cX5_init.data.toList.drop 163 = dktX5_init_7 := dk_seg dksX5_init_6 24 rfl rfl
theorem dksX5_init_8 : cX5_init.data.toList.drop 186 = dktX5_init_8 := dk_seg dksX5_init_7 23 rfl rfl
theorem dksX5_init_9 : cX5_init.data.toList.drop 210 = dktX5_init_9 := dk_seg dksX5_init_8 24 rfl rfl
theorem dksX5_init_10 : cX5_init.data.toList.drop 233 = dktX5_init_10 := dk_seg dksX5_init_9 23 rfl rfl
theorem dX5_init_0 : decode cX5_init 0 = .ok (.aload_n 0, 1) := dk_42 (dk_at dksX5_init_0 0 rfl rfl)
theorem dX5_init_1 : decode cX5_init 1 = .ok (.invokespecial 1, 3) := dk_183 0 1 (dk_at dksX5_init_0 1 rfl rfl)
theorem dX5_init_4 : decode cX5_init 4 = .ok (.aload_n 0, 1) := dk_42 (dk_at dksX5_init_0 4 rfl rfl)
theorem dX5_init_5 : decode cX5_init 5 = .ok (.bipush 12, 2) := dk_16 12 (dk_at dksX5_init_0 5 rfl rfl)
theorem dX5_init_7 : decode cX5_init 7 = .ok (.newarray .int, 2) := dk_188_10 (dk_at dksX5_init_0 7 rfl rfl)
theorem dX5_init_9 : decode cX5_init 9 = .ok (.putfield 9, 3) := dk_181 0 9 (dk_at dksX5_init_0 9 rfl rfl)
theorem dX5_init_12 : decode cX5_init 12 = .ok (.aload_n 0, 1) := dk_42 (dk_at dksX5_init_0 12 rfl rfl)
theorem dX5_init_13 : decode cX5_init 13 = .ok (.bipush 8, 2) := dk_16 8 (dk_at dksX5_init_0 13 rfl rfl)
theorem dX5_init_15 : decode cX5_init 15 = .ok (.newarray .int, 2) := dk_188_10 (dk_at dksX5_init_0 15 rfl rfl)
theorem dX5_init_17 : decode cX5_init 17 = .ok (.putfield 13, 3) := dk_181 0 13 (dk_at dksX5_init_0 17 rfl rfl)
theorem dX5_init_20 : decode cX5_init 20 = .ok (.aload_n 0, 1) := dk_42 (dk_at dksX5_init_0 20 rfl rfl)
theorem dX5_init_21 : decode cX5_init 21 = .ok (.bipush 8, 2) := dk_16 8 (dk_at dksX5_init_0 21 rfl rfl)
theorem dX5_init_23 : decode cX5_init 23 = .ok (.newarray .int, 2) := dk_188_10 (dk_at dksX5_init_1 0 rfl rfl)
theorem dX5_init_25 : decode cX5_init 25 = .ok (.putfield 16, 3) := dk_181 0 16 (dk_at dksX5_init_1 2 rfl rfl)
theorem dX5_init_28 : decode cX5_init 28 = .ok (.aload_n 0, 1) := dk_42 (dk_at dksX5_init_1 5 rfl rfl)
theorem dX5_init_29 : decode cX5_init 29 = .ok (.bipush 8, 2) := dk_16 8 (dk_at dksX5_init_1 6 rfl rfl)
theorem dX5_init_31 : decode cX5_init 31 = .ok (.newarray .int, 2) := dk_188_10 (dk_at dksX5_init_1 8 rfl rfl)
theorem dX5_init_33 : decode cX5_init 33 = .ok (.putfield 19, 3) := dk_181 0 19 (dk_at dksX5_init_1 10 rfl rfl)
theorem dX5_init_36 : decode cX5_init 36 = .ok (.aload_n 0, 1) := dk_42 (dk_at dksX5_init_1 13 rfl rfl)
theorem dX5_init_37 : decode cX5_init 37 = .ok (.bipush 8, 2) := dk_16 8 (dk_at dksX5_init_1 14 rfl rfl)
theorem dX5_init_39 : decode cX5_init 39 = .ok (.newarray .int, 2) := dk_188_10 (dk_at dksX5_init_1 16 rfl rfl)
theorem dX5_init_41 : decode cX5_init 41 = .ok (.putfield 22, 3) := dk_181 0 22 (dk_at dksX5_init_1 18 rfl rfl)
theorem dX5_init_44 : decode cX5_init 44 = .ok (.aload_n 0, 1) := dk_42 (dk_at dksX5_init_1 21 rfl rfl)
theorem dX5_init_45 : decode cX5_init 45 = .ok (.bipush 8, 2) := dk_16 8 (dk_at dksX5_init_1 22 rfl rfl)
theorem dX5_init_47 : decode cX5_init 47 = .ok (.newarray .int, 2) := dk_188_10 (dk_at dksX5_init_2 0 rfl rfl)
theorem dX5_init_49 : decode cX5_init 49 = .ok (.putfield 25, 3) := dk_181 0 25 (dk_at dksX5_init_2 2 rfl rfl)
theorem dX5_init_52 : decode cX5_init 52 = .ok (.aload_n 0, 1) := dk_42 (dk_at dksX5_init_2 5 rfl rfl)
theorem dX5_init_53 : decode cX5_init 53 = .ok (.bipush 8, 2) := dk_16 8 (dk_at dksX5_init_2 6 rfl rfl)
theorem dX5_init_55 : decode cX5_init 55 = .ok (.newarray .int, 2) := dk_188_10 (dk_at dksX5_init_2 8 rfl rfl)
theorem dX5_init_57 : decode cX5_init 57 = .ok (.putfield 28, 3) := dk_181 0 28 (dk_at dksX5_init_2 10 rfl rfl)
theorem dX5_init_60 : decode cX5_init 60 = .ok (.aload_n 0, 1) := dk_42 (dk_at dksX5_init_2 13 rfl rfl)
theorem dX5_init_61 : decode cX5_init 61 = .ok (.bipush 64, 2) := dk_16 64 (dk_at dksX5_init_2 14 rfl rfl)
theorem dX5_init_63 : decode cX5_init 63 = .ok (.newarray .int, 2) := dk_188_10 (dk_at dksX5_init_2 16 rfl rfl)
theorem dX5_init_65 : decode cX5_init 65 = .ok (.putfield 31, 3) := dk_181 0 31 (dk_at dksX5_init_2 18 rfl rfl)
theorem dX5_init_68 : decode cX5_init 68 = .ok (.aload_n 0, 1) := dk_42 (dk_at dksX5_init_2 21 rfl rfl)
theorem dX5_init_69 : decode cX5_init 69 = .ok (.sipush 250, 3) := dk_17 0 250 (dk_at dksX5_init_3 0 rfl rfl)
theorem dX5_init_72 : decode cX5_init 72 = .ok (.newarray .int, 2) := dk_188_10 (dk_at dksX5_init_3 3 rfl rfl)
theorem dX5_init_74 : decode cX5_init 74 = .ok (.putfield 34, 3) := dk_181 0 34 (dk_at dksX5_init_3 5 rfl rfl)
theorem dX5_init_77 : decode cX5_init 77 = .ok (.aload_n 0, 1) := dk_42 (dk_at dksX5_init_3 8 rfl rfl)
theorem dX5_init_78 : decode cX5_init 78 = .ok (.bipush 8, 2) := dk_16 8 (dk_at dksX5_init_3 9 rfl rfl)
theorem dX5_init_80 : decode cX5_init 80 = .ok (.newarray .int, 2) := dk_188_10 (dk_at dksX5_init_3 11 rfl rfl)
theorem dX5_init_82 : decode cX5_init 82 = .ok (.putfield 37, 3) := dk_181 0 37 (dk_at dksX5_init_3 13 rfl rfl)
theorem dX5_init_85 : decode cX5_init 85 = .ok (.aload_n 0, 1) := dk_42 (dk_at dksX5_init_3 16 rfl rfl)
theorem dX5_init_86 : decode cX5_init 86 = .ok (.bipush 8, 2) := dk_16 8 (dk_at dksX5_init_3 17 rfl rfl)
theorem dX5_init_88 : decode cX5_init 88 = .ok (.newarray .int, 2) := dk_188_10 (dk_at dksX5_init_3 19 rfl rfl)
theorem dX5_init_90 : decode cX5_init 90 = .ok (.putfield 40, 3) := dk_181 0 40 (dk_at dksX5_init_3 21 rfl rfl)
theorem dX5_init_93 : decode cX5_init 93 = .ok (.aload_n 0, 1) := dk_42 (dk_at dksX5_init_4 0 rfl rfl)
theorem dX5_init_94 : decode cX5_init 94 = .ok (.sipush 320, 3) := dk_17 1 64 (dk_at dksX5_init_4 1 rfl rfl)
theorem dX5_init_97 : decode cX5_init 97 = .ok (.newarray .long, 2) := dk_188_11 (dk_at dksX5_init_4 4 rfl rfl)
theorem dX5_init_99 : decode cX5_init 99 = .ok (.putfield 43, 3) := dk_181 0 43 (dk_at dksX5_init_4 6 rfl rfl)
theorem dX5_init_102 : decode cX5_init 102 = .ok (.aload_n 0, 1) := dk_42 (dk_at dksX5_init_4 9 rfl rfl)
theorem dX5_init_103 : decode cX5_init 103 = .ok (.bipush 7, 2) := dk_16 7 (dk_at dksX5_init_4 10 rfl rfl)
theorem dX5_init_105 : decode cX5_init 105 = .ok (.newarray .int, 2) := dk_188_10 (dk_at dksX5_init_4 12 rfl rfl)
theorem dX5_init_107 : decode cX5_init 107 = .ok (.putfield 47, 3) := dk_181 0 47 (dk_at dksX5_init_4 14 rfl rfl)
theorem dX5_init_110 : decode cX5_init 110 = .ok (.aload_n 0, 1) := dk_42 (dk_at dksX5_init_4 17 rfl rfl)
theorem dX5_init_111 : decode cX5_init 111 = .ok (.bipush 127, 2) := dk_16 127 (dk_at dksX5_init_4 18 rfl rfl)
theorem dX5_init_113 : decode cX5_init 113 = .ok (.newarray .int, 2) := dk_188_10 (dk_at dksX5_init_4 20 rfl rfl)
theorem dX5_init_115 : decode cX5_init 115 = .ok (.putfield 50, 3) := dk_181 0 50 (dk_at dksX5_init_5 0 rfl rfl)
theorem dX5_init_118 : decode cX5_init 118 = .ok (.aload_n 0, 1) := dk_42 (dk_at dksX5_init_5 3 rfl rfl)
theorem dX5_init_119 : decode cX5_init 119 = .ok (.bipush 127, 2) := dk_16 127 (dk_at dksX5_init_5 4 rfl rfl)
theorem dX5_init_121 : decode cX5_init 121 = .ok (.newarray .int, 2) := dk_188_10 (dk_at dksX5_init_5 6 rfl rfl)
theorem dX5_init_123 : decode cX5_init 123 = .ok (.putfield 53, 3) := dk_181 0 53 (dk_at dksX5_init_5 8 rfl rfl)
theorem dX5_init_126 : decode cX5_init 126 = .ok (.aload_n 0, 1) := dk_42 (dk_at dksX5_init_5 11 rfl rfl)
theorem dX5_init_127 : decode cX5_init 127 = .ok (.bipush 12, 2) := dk_16 12 (dk_at dksX5_init_5 12 rfl rfl)
theorem dX5_init_129 : decode cX5_init 129 = .ok (.newarray .int, 2) := dk_188_10 (dk_at dksX5_init_5 14 rfl rfl)
theorem dX5_init_131 : decode cX5_init 131 = .ok (.putfield 56, 3) := dk_181 0 56 (dk_at dksX5_init_5 16 rfl rfl)
theorem dX5_init_134 : decode cX5_init 134 = .ok (.aload_n 0, 1) := dk_42 (dk_at dksX5_init_5 19 rfl rfl)
theorem dX5_init_135 : decode cX5_init 135 = .ok (.bipush 8, 2) := dk_16 8 (dk_at dksX5_init_5 20 rfl rfl)
theorem dX5_init_137 : decode cX5_init 137 = .ok (.newarray .int, 2) := dk_188_10 (dk_at dksX5_init_5 22 rfl rfl)
theorem dX5_init_139 : decode cX5_init 139 = .ok (.putfield 59, 3) := dk_181 0 59 (dk_at dksX5_init_6 0 rfl rfl)
theorem dX5_init_142 : decode cX5_init 142 = .ok (.aload_n 0, 1) := dk_42 (dk_at dksX5_init_6 3 rfl rfl)
theorem dX5_init_143 : decode cX5_init 143 = .ok (.bipush 8, 2) := dk_16 8 (dk_at dksX5_init_6 4 rfl rfl)
theorem dX5_init_145 : decode cX5_init 145 = .ok (.newarray .int, 2) := dk_188_10 (dk_at dksX5_init_6 6 rfl rfl)
theorem dX5_init_147 : decode cX5_init 147 = .ok (.putfield 62, 3) := dk_181 0 62 (dk_at dksX5_init_6 8 rfl rfl)
theorem dX5_init_150 : decode cX5_init 150 = .ok (.aload_n 0, 1) := dk_42 (dk_at dksX5_init_6 11 rfl rfl)
theorem dX5_init_151 : decode cX5_init 151 = .ok (.bipush 8, 2) := dk_16 8 (dk_at dksX5_init_6 12 rfl rfl)
theorem dX5_init_153 : decode cX5_init 153 = .ok (.newarray .int, 2) := dk_188_10 (dk_at dksX5_init_6 14 rfl rfl)
theorem dX5_init_155 : decode cX5_init 155 = .ok (.putfield 65, 3) := dk_181 0 65 (dk_at dksX5_init_6 16 rfl rfl)
theorem dX5_init_158 : decode cX5_init 158 = .ok (.aload_n 0, 1) := dk_42 (dk_at dksX5_init_6 19 rfl rfl)
theorem dX5_init_159 : decode cX5_init 159 = .ok (.bipush 8, 2) := dk_16 8 (dk_at dksX5_init_6 20 rfl rfl)
theorem dX5_init_161 : decode cX5_init 161 = .ok (.newarray .int, 2) := dk_188_10 (dk_at dksX5_init_6 22 rfl rfl)
theorem dX5_init_163 : decode cX5_init 163 = .ok (.putfield 68, 3) := dk_181 0 68 (dk_at dksX5_init_7 0 rfl rfl)
theorem dX5_init_166 : decode cX5_init 166 = .ok (.aload_n 0, 1) := dk_42 (dk_at dksX5_init_7 3 rfl rfl)
theorem dX5_init_167 : decode cX5_init 167 = .ok (.bipush 8, 2) := dk_16 8 (dk_at dksX5_init_7 4 rfl rfl)
theorem dX5_init_169 : decode cX5_init 169 = .ok (.newarray .boolean, 2) := dk_188_4 (dk_at dksX5_init_7 6 rfl rfl)
theorem dX5_init_171 : decode cX5_init 171 = .ok (.putfield 71, 3) := dk_181 0 71 (dk_at dksX5_init_7 8 rfl rfl)
theorem dX5_init_174 : decode cX5_init 174 = .ok (.aload_n 0, 1) := dk_42 (dk_at dksX5_init_7 11 rfl rfl)
theorem dX5_init_175 : decode cX5_init 175 = .ok (.bipush 8, 2) := dk_16 8 (dk_at dksX5_init_7 12 rfl rfl)
theorem dX5_init_177 : decode cX5_init 177 = .ok (.newarray .int, 2) := dk_188_10 (dk_at dksX5_init_7 14 rfl rfl)
theorem dX5_init_179 : decode cX5_init 179 = .ok (.putfield 75, 3) := dk_181 0 75 (dk_at dksX5_init_7 16 rfl rfl)
theorem dX5_init_182 : decode cX5_init 182 = .ok (.aload_n 0, 1) := dk_42 (dk_at dksX5_init_7 19 rfl rfl)
theorem dX5_init_183 : decode cX5_init 183 = .ok (.iconst 3, 1) := dk_6 (dk_at dksX5_init_7 20 rfl rfl)
theorem dX5_init_184 : decode cX5_init 184 = .ok (.newarray .int, 2) := dk_188_10 (dk_at dksX5_init_7 21 rfl rfl)
theorem dX5_init_186 : decode cX5_init 186 = .ok (.putfield 78, 3) := dk_181 0 78 (dk_at dksX5_init_8 0 rfl rfl)
theorem dX5_init_189 : decode cX5_init 189 = .ok (.iconst 0, 1) := dk_3 (dk_at dksX5_init_8 3 rfl rfl)
theorem dX5_init_190 : decode cX5_init 190 = .ok (.istore_n 1, 1) := dk_60 (dk_at dksX5_init_8 4 rfl rfl)
theorem dX5_init_191 : decode cX5_init 191 = .ok (.iload_n 1, 1) := dk_27 (dk_at dksX5_init_8 5 rfl rfl)
theorem dX5_init_192 : decode cX5_init 192 = .ok (.bipush 12, 2) := dk_16 12 (dk_at dksX5_init_8 6 rfl rfl)
theorem dX5_init_194 : decode cX5_init 194 = .ok (.if_icmp .ge 16, 3) := dk_162 0 16 (dk_at dksX5_init_8 8 rfl rfl)
theorem dX5_init_197 : decode cX5_init 197 = .ok (.aload_n 0, 1) := dk_42 (dk_at dksX5_init_8 11 rfl rfl)
theorem dX5_init_198 : decode cX5_init 198 = .ok (.getfield 9, 3) := dk_180 0 9 (dk_at dksX5_init_8 12 rfl rfl)
theorem dX5_init_201 : decode cX5_init 201 = .ok (.iload_n 1, 1) := dk_27 (dk_at dksX5_init_8 15 rfl rfl)
theorem dX5_init_202 : decode cX5_init 202 = .ok (.iconst (-1), 1) := dk_2 (dk_at dksX5_init_8 16 rfl rfl)
theorem dX5_init_203 : decode cX5_init 203 = .ok (.iastore, 1) := dk_79 (dk_at dksX5_init_8 17 rfl rfl)
theorem dX5_init_204 : decode cX5_init 204 = .ok (.iinc 1 1, 3) := dk_132 1 1 (dk_at dksX5_init_8 18 rfl rfl)
theorem dX5_init_207 : decode cX5_init 207 = .ok (.goto (-16), 3) := dk_167 255 240 (dk_at dksX5_init_8 21 rfl rfl)
theorem dX5_init_210 : decode cX5_init 210 = .ok (.aload_n 0, 1) := dk_42 (dk_at dksX5_init_9 0 rfl rfl)
theorem dX5_init_211 : decode cX5_init 211 = .ok (.iconst 1, 1) := dk_4 (dk_at dksX5_init_9 1 rfl rfl)
theorem dX5_init_212 : decode cX5_init 212 = .ok (.putfield 81, 3) := dk_181 0 81 (dk_at dksX5_init_9 2 rfl rfl)
theorem dX5_init_215 : decode cX5_init 215 = .ok (.iconst 0, 1) := dk_3 (dk_at dksX5_init_9 5 rfl rfl)
theorem dX5_init_216 : decode cX5_init 216 = .ok (.istore_n 1, 1) := dk_60 (dk_at dksX5_init_9 6 rfl rfl)
theorem dX5_init_217 : decode cX5_init 217 = .ok (.iload_n 1, 1) := dk_27 (dk_at dksX5_init_9 7 rfl rfl)
theorem dX5_init_218 : decode cX5_init 218 = .ok (.bipush 8, 2) := dk_16 8 (dk_at dksX5_init_9 8 rfl rfl)
theorem dX5_init_220 : decode cX5_init 220 = .ok (.if_icmp .ge 16, 3) := dk_162 0 16 (dk_at dksX5_init_9 10 rfl rfl)
theorem dX5_init_223 : decode cX5_init 223 = .ok (.aload_n 0, 1) := dk_42 (dk_at dksX5_init_9 13 rfl rfl)
theorem dX5_init_224 : decode cX5_init 224 = .ok (.getfield 37, 3) := dk_180 0 37 (dk_at dksX5_init_9 14 rfl rfl)
theorem dX5_init_227 : decode cX5_init 227 = .ok (.iload_n 1, 1) := dk_27 (dk_at dksX5_init_9 17 rfl rfl)
theorem dX5_init_228 : decode cX5_init 228 = .ok (.iconst (-1), 1) := dk_2 (dk_at dksX5_init_9 18 rfl rfl)
theorem dX5_init_229 : decode cX5_init 229 = .ok (.iastore, 1) := dk_79 (dk_at dksX5_init_9 19 rfl rfl)
theorem dX5_init_230 : decode cX5_init 230 = .ok (.iinc 1 1, 3) := dk_132 1 1 (dk_at dksX5_init_9 20 rfl rfl)
theorem dX5_init_233 : decode cX5_init 233 = .ok (.goto (-16), 3) := dk_167 255 240 (dk_at dksX5_init_10 0 rfl rfl)
theorem dX5_init_236 : decode cX5_init 236 = .ok (.return_, 1) := dk_177 (dk_at dksX5_init_10 3 rfl rfl)
abbrev cX5_row : ByteArray := prog_17_method_12_code
def yX5_row : MethodName := ⟨RX5, "row", "(III)I"⟩
def dkwX5_row_3 : List UInt8 := [132, 4, 1, 167, 255, 233, 4, 172]
abbrev dktX5_row_3 : List UInt8 := dkwX5_row_3 ++ []
def dkwX5_row_2 : List UInt8 := [3, 54, 4, 21, 4, 16, 40, 162, 0, 22, 42, 180, 0, 43, 16, 40, 27, 104, 21, 4, 96, 9, 80]
abbrev dktX5_row_2 : List UInt8 := dkwX5_row_2 ++ dktX5_row_3
def dkwX5_row_1 : List UInt8 := [154, 0, 10, 42, 16, 254, 182, 0, 96, 172, 42, 180, 0, 37, 27, 28, 79, 42, 180, 0, 40, 27, 29, 79]
abbrev dktX5_row_1 : List UInt8 := dkwX5_row_1 ++ dktX5_row_2
def dkwX5_row_0 : List UInt8 := [27, 184, 0, 92, 153, 0, 22, 28, 3, 7, 184, 0, 85, 153, 0, 13, 29, 3, 16, 40, 184, 0, 85]
abbrev dktX5_row_0 : List UInt8 := dkwX5_row_0 ++ dktX5_row_1
theorem dksX5_row_0 : cX5_row.data.toList.drop 0 = dktX5_row_0 := by decide +kernel
theorem dksX5_row_1 : cX5_row.data.toList.drop 23 = dktX5_row_1 := dk_seg dksX5_row_0 23 rfl rfl
theorem dksX5_row_2 : cX5_row.data.toList.drop 47 = dktX5_row_2 := dk_seg dksX5_row_1 24 rfl rfl
theorem dksX5_row_3 : cX5_row.data.toList.drop 70 = dktX5_row_3 := dk_seg dksX5_row_2 23 rfl rfl
theorem dX5_row_0 : decode cX5_row 0 = .ok (.iload_n 1, 1) := dk_27 (dk_at dksX5_row_0 0 rfl rfl)
theorem dX5_row_1 : decode cX5_row 1 = .ok (.invokestatic 92, 3) := dk_184 0 92 (dk_at dksX5_row_0 1 rfl rfl)
theorem dX5_row_4 : decode cX5_row 4 = .ok (.ifCond .eq 22, 3) := dk_153 0 22 (dk_at dksX5_row_0 4 rfl rfl)
theorem dX5_row_7 : decode cX5_row 7 = .ok (.iload_n 2, 1) := dk_28 (dk_at dksX5_row_0 7 rfl rfl)
theorem dX5_row_8 : decode cX5_row 8 = .ok (.iconst 0, 1) := dk_3 (dk_at dksX5_row_0 8 rfl rfl)
theorem dX5_row_9 : decode cX5_row 9 = .ok (.iconst 4, 1) := dk_7 (dk_at dksX5_row_0 9 rfl rfl)
theorem dX5_row_10 : decode cX5_row 10 = .ok (.invokestatic 85, 3) := dk_184 0 85 (dk_at dksX5_row_0 10 rfl rfl)
theorem dX5_row_13 : decode cX5_row 13 = .ok (.ifCond .eq 13, 3) := dk_153 0 13 (dk_at dksX5_row_0 13 rfl rfl)
theorem dX5_row_16 : decode cX5_row 16 = .ok (.iload_n 3, 1) := dk_29 (dk_at dksX5_row_0 16 rfl rfl)
theorem dX5_row_17 : decode cX5_row 17 = .ok (.iconst 0, 1) := dk_3 (dk_at dksX5_row_0 17 rfl rfl)
theorem dX5_row_18 : decode cX5_row 18 = .ok (.bipush 40, 2) := dk_16 40 (dk_at dksX5_row_0 18 rfl rfl)
theorem dX5_row_20 : decode cX5_row 20 = .ok (.invokestatic 85, 3) := dk_184 0 85 (dk_at dksX5_row_0 20 rfl rfl)
theorem dX5_row_23 : decode cX5_row 23 = .ok (.ifCond .ne 10, 3) := dk_154 0 10 (dk_at dksX5_row_1 0 rfl rfl)
theorem dX5_row_26 : decode cX5_row 26 = .ok (.aload_n 0, 1) := dk_42 (dk_at dksX5_row_1 3 rfl rfl)
theorem dX5_row_27 : decode cX5_row 27 = .ok (.bipush (-2), 2) := dk_16 254 (dk_at dksX5_row_1 4 rfl rfl)
theorem dX5_row_29 : decode cX5_row 29 = .ok (.invokevirtual 96, 3) := dk_182 0 96 (dk_at dksX5_row_1 6 rfl rfl)
theorem dX5_row_32 : decode cX5_row 32 = .ok (.ireturn, 1) := dk_172 (dk_at dksX5_row_1 9 rfl rfl)
theorem dX5_row_33 : decode cX5_row 33 = .ok (.aload_n 0, 1) := dk_42 (dk_at dksX5_row_1 10 rfl rfl)
theorem dX5_row_34 : decode cX5_row 34 = .ok (.getfield 37, 3) := dk_180 0 37 (dk_at dksX5_row_1 11 rfl rfl)
theorem dX5_row_37 : decode cX5_row 37 = .ok (.iload_n 1, 1) := dk_27 (dk_at dksX5_row_1 14 rfl rfl)
theorem dX5_row_38 : decode cX5_row 38 = .ok (.iload_n 2, 1) := dk_28 (dk_at dksX5_row_1 15 rfl rfl)
theorem dX5_row_39 : decode cX5_row 39 = .ok (.iastore, 1) := dk_79 (dk_at dksX5_row_1 16 rfl rfl)
theorem dX5_row_40 : decode cX5_row 40 = .ok (.aload_n 0, 1) := dk_42 (dk_at dksX5_row_1 17 rfl rfl)
theorem dX5_row_41 : decode cX5_row 41 = .ok (.getfield 40, 3) := dk_180 0 40 (dk_at dksX5_row_1 18 rfl rfl)
theorem dX5_row_44 : decode cX5_row 44 = .ok (.iload_n 1, 1) := dk_27 (dk_at dksX5_row_1 21 rfl rfl)
theorem dX5_row_45 : decode cX5_row 45 = .ok (.iload_n 3, 1) := dk_29 (dk_at dksX5_row_1 22 rfl rfl)
theorem dX5_row_46 : decode cX5_row 46 = .ok (.iastore, 1) := dk_79 (dk_at dksX5_row_1 23 rfl rfl)
theorem dX5_row_47 : decode cX5_row 47 = .ok (.iconst 0, 1) := dk_3 (dk_at dksX5_row_2 0 rfl rfl)
theorem dX5_row_48 : decode cX5_row 48 = .ok (.istore 4, 2) := dk_54 4 (dk_at dksX5_row_2 1 rfl rfl)
theorem dX5_row_50 : decode cX5_row 50 = .ok (.iload 4, 2) := dk_21 4 (dk_at dksX5_row_2 3 rfl rfl)
theorem dX5_row_52 : decode cX5_row 52 = .ok (.bipush 40, 2) := dk_16 40 (dk_at dksX5_row_2 5 rfl rfl)
theorem dX5_row_54 : decode cX5_row 54 = .ok (.if_icmp .ge 22, 3) := dk_162 0 22 (dk_at dksX5_row_2 7 rfl rfl)
theorem dX5_row_57 : decode cX5_row 57 = .ok (.aload_n 0, 1) := dk_42 (dk_at dksX5_row_2 10 rfl rfl)
theorem dX5_row_58 : decode cX5_row 58 = .ok (.getfield 43, 3) := dk_180 0 43 (dk_at dksX5_row_2 11 rfl rfl)
theorem dX5_row_61 : decode cX5_row 61 = .ok (.bipush 40, 2) := dk_16 40 (dk_at dksX5_row_2 14 rfl rfl)
theorem dX5_row_63 : decode cX5_row 63 = .ok (.iload_n 1, 1) := dk_27 (dk_at dksX5_row_2 16 rfl rfl)
theorem dX5_row_64 : decode cX5_row 64 = .ok (.imul, 1) := dk_104 (dk_at dksX5_row_2 17 rfl rfl)
theorem dX5_row_65 : decode cX5_row 65 = .ok (.iload 4, 2) := dk_21 4 (dk_at dksX5_row_2 18 rfl rfl)
theorem dX5_row_67 : decode cX5_row 67 = .ok (.iadd, 1) := dk_96 (dk_at dksX5_row_2 20 rfl rfl)
theorem dX5_row_68 : decode cX5_row 68 = .ok (.lconst 0, 1) := dk_9 (dk_at dksX5_row_2 21 rfl rfl)
theorem dX5_row_69 : decode cX5_row 69 = .ok (.lastore, 1) := dk_80 (dk_at dksX5_row_2 22 rfl rfl)
theorem dX5_row_70 : decode cX5_row 70 = .ok (.iinc 4 1, 3) := dk_132 4 1 (dk_at dksX5_row_3 0 rfl rfl)
theorem dX5_row_73 : decode cX5_row 73 = .ok (.goto (-23), 3) := dk_167 255 233 (dk_at dksX5_row_3 3 rfl rfl)
theorem dX5_row_76 : decode cX5_row 76 = .ok (.iconst 1, 1) := dk_4 (dk_at dksX5_row_3 6 rfl rfl)
theorem dX5_row_77 : decode cX5_row 77 = .ok (.ireturn, 1) := dk_172 (dk_at dksX5_row_3 7 rfl rfl)
abbrev cX5_isShelf : ByteArray := prog_17_method_10_code
def yX5_isShelf : MethodName := ⟨RX5, "isShelf", "(I)Z"⟩
def dkwX5_isShelf_0 : List UInt8 := [26, 3, 16, 7, 184, 0, 85, 172]
abbrev dktX5_isShelf_0 : List UInt8 := dkwX5_isShelf_0 ++ []
theorem dksX5_isShelf_0 : cX5_isShelf.data.toList.drop 0 = dktX5_isShelf_0 := by decide +kernel
theorem dX5_isShelf_0 : decode cX5_isShelf 0 = .ok (.iload_n 0, 1) := dk_26 (dk_at dksX5_isShelf_0 0 rfl rfl)
theorem dX5_isShelf_1 : decode cX5_isShelf 1 = .ok (.iconst 0, 1) := dk_3 (dk_at dksX5_isShelf_0 1 rfl rfl)
theorem dX5_isShelf_2 : decode cX5_isShelf 2 = .ok (.bipush 7, 2) := dk_16 7 (dk_at dksX5_isShelf_0 2 rfl rfl)
theorem dX5_isShelf_4 : decode cX5_isShelf 4 = .ok (.invokestatic 85, 3) := dk_184 0 85 (dk_at dksX5_isShelf_0 4 rfl rfl)
theorem dX5_isShelf_7 : decode cX5_isShelf 7 = .ok (.ireturn, 1) := dk_172 (dk_at dksX5_isShelf_0 7 rfl rfl)
abbrev cX5_within : ByteArray := prog_17_method_3_code
def yX5_within : MethodName := ⟨RX5, "within", "(III)Z"⟩
def dkwX5_within_0 : List UInt8 := [26, 27, 161, 0, 12, 26, 28, 163, 0, 7, 4, 167, 0, 4, 3, 172]
abbrev dktX5_within_0 : List UInt8 := dkwX5_within_0 ++ []
theorem dksX5_within_0 : cX5_within.data.toList.drop 0 = dktX5_within_0 := by decide +kernel
theorem dX5_within_0 : decode cX5_within 0 = .ok (.iload_n 0, 1) := dk_26 (dk_at dksX5_within_0 0 rfl rfl)
theorem dX5_within_1 : decode cX5_within 1 = .ok (.iload_n 1, 1) := dk_27 (dk_at dksX5_within_0 1 rfl rfl)
theorem dX5_within_2 : decode cX5_within 2 = .ok (.if_icmp .lt 12, 3) := dk_161 0 12 (dk_at dksX5_within_0 2 rfl rfl)
theorem dX5_within_5 : decode cX5_within 5 = .ok (.iload_n 0, 1) := dk_26 (dk_at dksX5_within_0 5 rfl rfl)
theorem dX5_within_6 : decode cX5_within 6 = .ok (.iload_n 2, 1) := dk_28 (dk_at dksX5_within_0 6 rfl rfl)
theorem dX5_within_7 : decode cX5_within 7 = .ok (.if_icmp .gt 7, 3) := dk_163 0 7 (dk_at dksX5_within_0 7 rfl rfl)
theorem dX5_within_10 : decode cX5_within 10 = .ok (.iconst 1, 1) := dk_4 (dk_at dksX5_within_0 10 rfl rfl)
theorem dX5_within_11 : decode cX5_within 11 = .ok (.goto 4, 3) := dk_167 0 4 (dk_at dksX5_within_0 11 rfl rfl)
theorem dX5_within_14 : decode cX5_within 14 = .ok (.iconst 0, 1) := dk_3 (dk_at dksX5_within_0 14 rfl rfl)
theorem dX5_within_15 : decode cX5_within 15 = .ok (.ireturn, 1) := dk_172 (dk_at dksX5_within_0 15 rfl rfl)
abbrev cX5_no : ByteArray := prog_17_method_2_code
def yX5_no : MethodName := ⟨RX5, "no", "(I)I"⟩
def dkwX5_no_0 : List UInt8 := [42, 180, 0, 47, 27, 116, 92, 46, 4, 96, 79, 27, 172]
abbrev dktX5_no_0 : List UInt8 := dkwX5_no_0 ++ []
theorem dksX5_no_0 : cX5_no.data.toList.drop 0 = dktX5_no_0 := by decide +kernel
theorem dX5_no_0 : decode cX5_no 0 = .ok (.aload_n 0, 1) := dk_42 (dk_at dksX5_no_0 0 rfl rfl)
theorem dX5_no_1 : decode cX5_no 1 = .ok (.getfield 47, 3) := dk_180 0 47 (dk_at dksX5_no_0 1 rfl rfl)
theorem dX5_no_4 : decode cX5_no 4 = .ok (.iload_n 1, 1) := dk_27 (dk_at dksX5_no_0 4 rfl rfl)
theorem dX5_no_5 : decode cX5_no 5 = .ok (.ineg, 1) := dk_116 (dk_at dksX5_no_0 5 rfl rfl)
theorem dX5_no_6 : decode cX5_no 6 = .ok (.dup2, 1) := dk_92 (dk_at dksX5_no_0 6 rfl rfl)
theorem dX5_no_7 : decode cX5_no 7 = .ok (.iaload, 1) := dk_46 (dk_at dksX5_no_0 7 rfl rfl)
theorem dX5_no_8 : decode cX5_no 8 = .ok (.iconst 1, 1) := dk_4 (dk_at dksX5_no_0 8 rfl rfl)
theorem dX5_no_9 : decode cX5_no 9 = .ok (.iadd, 1) := dk_96 (dk_at dksX5_no_0 9 rfl rfl)
theorem dX5_no_10 : decode cX5_no 10 = .ok (.iastore, 1) := dk_79 (dk_at dksX5_no_0 10 rfl rfl)
theorem dX5_no_11 : decode cX5_no 11 = .ok (.iload_n 1, 1) := dk_27 (dk_at dksX5_no_0 11 rfl rfl)
theorem dX5_no_12 : decode cX5_no 12 = .ok (.ireturn, 1) := dk_172 (dk_at dksX5_no_0 12 rfl rfl)
abbrev cX5_set : ByteArray := prog_17_method_15_code
def yX5_set : MethodName := ⟨RX5, "set", "(IIJ)I"⟩
def dkwX5_set_3 : List UInt8 := [184, 0, 106, 80, 4, 172]
abbrev dktX5_set_3 : List UInt8 := dkwX5_set_3 ++ []
def dkwX5_set_2 : List UInt8 := [42, 16, 254, 182, 0, 96, 172, 42, 180, 0, 43, 16, 40, 27, 104, 28, 96, 42, 180, 0, 37, 27, 46, 33]
abbrev dktX5_set_2 : List UInt8 := dkwX5_set_2 ++ dktX5_set_3
def dkwX5_set_1 : List UInt8 := [27, 182, 0, 103, 182, 0, 96, 172, 28, 3, 42, 180, 0, 40, 27, 46, 4, 100, 184, 0, 85, 154, 0, 10]
abbrev dktX5_set_1 : List UInt8 := dkwX5_set_1 ++ dktX5_set_2
def dkwX5_set_0 : List UInt8 := [27, 184, 0, 92, 154, 0, 10, 42, 16, 254, 182, 0, 96, 172, 42, 27, 182, 0, 100, 154, 0, 13, 42, 42]
abbrev dktX5_set_0 : List UInt8 := dkwX5_set_0 ++ dktX5_set_1
theorem dksX5_set_0 : cX5_set.data.toList.drop 0 = dktX5_set_0 := by decide +kernel
theorem dksX5_set_1 : cX5_set.data.toList.drop 24 = dktX5_set_1 := dk_seg dksX5_set_0 24 rfl rfl
theorem dksX5_set_2 : cX5_set.data.toList.drop 48 = dktX5_set_2 := dk_seg dksX5_set_1 24 rfl rfl
theorem dksX5_set_3 : cX5_set.data.toList.drop 72 = dktX5_set_3 := dk_seg dksX5_set_2 24 rfl rfl
theorem dX5_set_0 : decode cX5_set 0 = .ok (.iload_n 1, 1) := dk_27 (dk_at dksX5_set_0 0 rfl rfl)
theorem dX5_set_1 : decode cX5_set 1 = .ok (.invokestatic 92, 3) := dk_184 0 92 (dk_at dksX5_set_0 1 rfl rfl)
theorem dX5_set_4 : decode cX5_set 4 = .ok (.ifCond .ne 10, 3) := dk_154 0 10 (dk_at dksX5_set_0 4 rfl rfl)
theorem dX5_set_7 : decode cX5_set 7 = .ok (.aload_n 0, 1) := dk_42 (dk_at dksX5_set_0 7 rfl rfl)
theorem dX5_set_8 : decode cX5_set 8 = .ok (.bipush (-2), 2) := dk_16 254 (dk_at dksX5_set_0 8 rfl rfl)
theorem dX5_set_10 : decode cX5_set 10 = .ok (.invokevirtual 96, 3) := dk_182 0 96 (dk_at dksX5_set_0 10 rfl rfl)
theorem dX5_set_13 : decode cX5_set 13 = .ok (.ireturn, 1) := dk_172 (dk_at dksX5_set_0 13 rfl rfl)
theorem dX5_set_14 : decode cX5_set 14 = .ok (.aload_n 0, 1) := dk_42 (dk_at dksX5_set_0 14 rfl rfl)
theorem dX5_set_15 : decode cX5_set 15 = .ok (.iload_n 1, 1) := dk_27 (dk_at dksX5_set_0 15 rfl rfl)
theorem dX5_set_16 : decode cX5_set 16 = .ok (.invokevirtual 100, 3) := dk_182 0 100 (dk_at dksX5_set_0 16 rfl rfl)
theorem dX5_set_19 : decode cX5_set 19 = .ok (.ifCond .ne 13, 3) := dk_154 0 13 (dk_at dksX5_set_0 19 rfl rfl)
theorem dX5_set_22 : decode cX5_set 22 = .ok (.aload_n 0, 1) := dk_42 (dk_at dksX5_set_0 22 rfl rfl)
theorem dX5_set_23 : decode cX5_set 23 = .ok (.aload_n 0, 1) := dk_42 (dk_at dksX5_set_0 23 rfl rfl)
theorem dX5_set_24 : decode cX5_set 24 = .ok (.iload_n 1, 1) := dk_27 (dk_at dksX5_set_1 0 rfl rfl)
theorem dX5_set_25 : decode cX5_set 25 = .ok (.invokevirtual 103, 3) := dk_182 0 103 (dk_at dksX5_set_1 1 rfl rfl)
theorem dX5_set_28 : decode cX5_set 28 = .ok (.invokevirtual 96, 3) := dk_182 0 96 (dk_at dksX5_set_1 4 rfl rfl)
theorem dX5_set_31 : decode cX5_set 31 = .ok (.ireturn, 1) := dk_172 (dk_at dksX5_set_1 7 rfl rfl)
theorem dX5_set_32 : decode cX5_set 32 = .ok (.iload_n 2, 1) := dk_28 (dk_at dksX5_set_1 8 rfl rfl)
theorem dX5_set_33 : decode cX5_set 33 = .ok (.iconst 0, 1) := dk_3 (dk_at dksX5_set_1 9 rfl rfl)
theorem dX5_set_34 : decode cX5_set 34 = .ok (.aload_n 0, 1) := dk_42 (dk_at dksX5_set_1 10 rfl rfl)
theorem dX5_set_35 : decode cX5_set 35 = .ok (.getfield 40, 3) := dk_180 0 40 (dk_at dksX5_set_1 11 rfl rfl)
theorem dX5_set_38 : decode cX5_set 38 = .ok (.iload_n 1, 1) := dk_27 (dk_at dksX5_set_1 14 rfl rfl)
theorem dX5_set_39 : decode cX5_set 39 = .ok (.iaload, 1) := dk_46 (dk_at dksX5_set_1 15 rfl rfl)
theorem dX5_set_40 : decode cX5_set 40 = .ok (.iconst 1, 1) := dk_4 (dk_at dksX5_set_1 16 rfl rfl)
theorem dX5_set_41 : decode cX5_set 41 = .ok (.isub, 1) := dk_100 (dk_at dksX5_set_1 17 rfl rfl)
theorem dX5_set_42 : decode cX5_set 42 = .ok (.invokestatic 85, 3) := dk_184 0 85 (dk_at dksX5_set_1 18 rfl rfl)
theorem dX5_set_45 : decode cX5_set 45 = .ok (.ifCond .ne 10, 3) := dk_154 0 10 (dk_at dksX5_set_1 21 rfl rfl)
theorem dX5_set_48 : decode cX5_set 48 = .ok (.aload_n 0, 1) := dk_42 (dk_at dksX5_set_2 0 rfl rfl)
theorem dX5_set_49 : decode cX5_set 49 = .ok (.bipush (-2), 2) := dk_16 254 (dk_at dksX5_set_2 1 rfl rfl)
theorem dX5_set_51 : decode cX5_set 51 = .ok (.invokevirtual 96, 3) := dk_182 0 96 (dk_at dksX5_set_2 3 rfl rfl)
theorem dX5_set_54 : decode cX5_set 54 = .ok (.ireturn, 1) := dk_172 (dk_at dksX5_set_2 6 rfl rfl)
theorem dX5_set_55 : decode cX5_set 55 = .ok (.aload_n 0, 1) := dk_42 (dk_at dksX5_set_2 7 rfl rfl)
theorem dX5_set_56 : decode cX5_set 56 = .ok (.getfield 43, 3) := dk_180 0 43 (dk_at dksX5_set_2 8 rfl rfl)
theorem dX5_set_59 : decode cX5_set 59 = .ok (.bipush 40, 2) := dk_16 40 (dk_at dksX5_set_2 11 rfl rfl)
theorem dX5_set_61 : decode cX5_set 61 = .ok (.iload_n 1, 1) := dk_27 (dk_at dksX5_set_2 13 rfl rfl)
theorem dX5_set_62 : decode cX5_set 62 = .ok (.imul, 1) := dk_104 (dk_at dksX5_set_2 14 rfl rfl)
theorem dX5_set_63 : decode cX5_set 63 = .ok (.iload_n 2, 1) := dk_28 (dk_at dksX5_set_2 15 rfl rfl)
theorem dX5_set_64 : decode cX5_set 64 = .ok (.iadd, 1) := dk_96 (dk_at dksX5_set_2 16 rfl rfl)
theorem dX5_set_65 : decode cX5_set 65 = .ok (.aload_n 0, 1) := dk_42 (dk_at dksX5_set_2 17 rfl rfl)
theorem dX5_set_66 : decode cX5_set 66 = .ok (.getfield 37, 3) := dk_180 0 37 (dk_at dksX5_set_2 18 rfl rfl)
theorem dX5_set_69 : decode cX5_set 69 = .ok (.iload_n 1, 1) := dk_27 (dk_at dksX5_set_2 21 rfl rfl)
theorem dX5_set_70 : decode cX5_set 70 = .ok (.iaload, 1) := dk_46 (dk_at dksX5_set_2 22 rfl rfl)
theorem dX5_set_71 : decode cX5_set 71 = .ok (.lload_n 3, 1) := dk_33 (dk_at dksX5_set_2 23 rfl rfl)
theorem dX5_set_72 : decode cX5_set 72 = .ok (.invokestatic 106, 3) := dk_184 0 106 (dk_at dksX5_set_3 0 rfl rfl)
theorem dX5_set_75 : decode cX5_set 75 = .ok (.lastore, 1) := dk_80 (dk_at dksX5_set_3 3 rfl rfl)
theorem dX5_set_76 : decode cX5_set 76 = .ok (.iconst 1, 1) := dk_4 (dk_at dksX5_set_3 4 rfl rfl)
theorem dX5_set_77 : decode cX5_set 77 = .ok (.ireturn, 1) := dk_172 (dk_at dksX5_set_3 5 rfl rfl)
abbrev cX5_isRow : ByteArray := prog_17_method_11_code
def yX5_isRow : MethodName := ⟨RX5, "isRow", "(I)Z"⟩
def dkwX5_isRow_0 : List UInt8 := [42, 180, 0, 37, 27, 46, 3, 7, 184, 0, 85, 172]
abbrev dktX5_isRow_0 : List UInt8 := dkwX5_isRow_0 ++ []
theorem dksX5_isRow_0 : cX5_isRow.data.toList.drop 0 = dktX5_isRow_0 := by decide +kernel
theorem dX5_isRow_0 : decode cX5_isRow 0 = .ok (.aload_n 0, 1) := dk_42 (dk_at dksX5_isRow_0 0 rfl rfl)
theorem dX5_isRow_1 : decode cX5_isRow 1 = .ok (.getfield 37, 3) := dk_180 0 37 (dk_at dksX5_isRow_0 1 rfl rfl)
theorem dX5_isRow_4 : decode cX5_isRow 4 = .ok (.iload_n 1, 1) := dk_27 (dk_at dksX5_isRow_0 4 rfl rfl)
theorem dX5_isRow_5 : decode cX5_isRow 5 = .ok (.iaload, 1) := dk_46 (dk_at dksX5_isRow_0 5 rfl rfl)
theorem dX5_isRow_6 : decode cX5_isRow 6 = .ok (.iconst 0, 1) := dk_3 (dk_at dksX5_isRow_0 6 rfl rfl)
theorem dX5_isRow_7 : decode cX5_isRow 7 = .ok (.iconst 4, 1) := dk_7 (dk_at dksX5_isRow_0 7 rfl rfl)
theorem dX5_isRow_8 : decode cX5_isRow 8 = .ok (.invokestatic 85, 3) := dk_184 0 85 (dk_at dksX5_isRow_0 8 rfl rfl)
theorem dX5_isRow_11 : decode cX5_isRow 11 = .ok (.ireturn, 1) := dk_172 (dk_at dksX5_isRow_0 11 rfl rfl)
abbrev cX5_noRow : ByteArray := prog_17_method_13_code
def yX5_noRow : MethodName := ⟨RX5, "noRow", "(I)I"⟩
def dkwX5_noRow_1 : List UInt8 := [156, 0, 8, 16, 252, 167, 0, 4, 3, 172]
abbrev dktX5_noRow_1 : List UInt8 := dkwX5_noRow_1 ++ []
def dkwX5_noRow_0 : List UInt8 := [42, 180, 0, 37, 27, 46, 16, 10, 161, 0, 8, 16, 253, 167, 0, 18, 42, 180, 0, 37, 27, 46]
abbrev dktX5_noRow_0 : List UInt8 := dkwX5_noRow_0 ++ dktX5_noRow_1
theorem dksX5_noRow_0 : cX5_noRow.data.toList.drop 0 = dktX5_noRow_0 := by decide +kernel
theorem dksX5_noRow_1 : cX5_noRow.data.toList.drop 22 = dktX5_noRow_1 := dk_seg dksX5_noRow_0 22 rfl rfl
theorem dX5_noRow_0 : decode cX5_noRow 0 = .ok (.aload_n 0, 1) := dk_42 (dk_at dksX5_noRow_0 0 rfl rfl)
theorem dX5_noRow_1 : decode cX5_noRow 1 = .ok (.getfield 37, 3) := dk_180 0 37 (dk_at dksX5_noRow_0 1 rfl rfl)
theorem dX5_noRow_4 : decode cX5_noRow 4 = .ok (.iload_n 1, 1) := dk_27 (dk_at dksX5_noRow_0 4 rfl rfl)
theorem dX5_noRow_5 : decode cX5_noRow 5 = .ok (.iaload, 1) := dk_46 (dk_at dksX5_noRow_0 5 rfl rfl)
theorem dX5_noRow_6 : decode cX5_noRow 6 = .ok (.bipush 10, 2) := dk_16 10 (dk_at dksX5_noRow_0 6 rfl rfl)
theorem dX5_noRow_8 : decode cX5_noRow 8 = .ok (.if_icmp .lt 8, 3) := dk_161 0 8 (dk_at dksX5_noRow_0 8 rfl rfl)
theorem dX5_noRow_11 : decode cX5_noRow 11 = .ok (.bipush (-3), 2) := dk_16 253 (dk_at dksX5_noRow_0 11 rfl rfl)
theorem dX5_noRow_13 : decode cX5_noRow 13 = .ok (.goto 18, 3) := dk_167 0 18 (dk_at dksX5_noRow_0 13 rfl rfl)
theorem dX5_noRow_16 : decode cX5_noRow 16 = .ok (.aload_n 0, 1) := dk_42 (dk_at dksX5_noRow_0 16 rfl rfl)
theorem dX5_noRow_17 : decode cX5_noRow 17 = .ok (.getfield 37, 3) := dk_180 0 37 (dk_at dksX5_noRow_0 17 rfl rfl)
theorem dX5_noRow_20 : decode cX5_noRow 20 = .ok (.iload_n 1, 1) := dk_27 (dk_at dksX5_noRow_0 20 rfl rfl)
theorem dX5_noRow_21 : decode cX5_noRow 21 = .ok (.iaload, 1) := dk_46 (dk_at dksX5_noRow_0 21 rfl rfl)
theorem dX5_noRow_22 : decode cX5_noRow 22 = .ok (.ifCond .ge 8, 3) := dk_156 0 8 (dk_at dksX5_noRow_1 0 rfl rfl)
theorem dX5_noRow_25 : decode cX5_noRow 25 = .ok (.bipush (-4), 2) := dk_16 252 (dk_at dksX5_noRow_1 3 rfl rfl)
theorem dX5_noRow_27 : decode cX5_noRow 27 = .ok (.goto 4, 3) := dk_167 0 4 (dk_at dksX5_noRow_1 5 rfl rfl)
theorem dX5_noRow_30 : decode cX5_noRow 30 = .ok (.iconst 0, 1) := dk_3 (dk_at dksX5_noRow_1 8 rfl rfl)
theorem dX5_noRow_31 : decode cX5_noRow 31 = .ok (.ireturn, 1) := dk_172 (dk_at dksX5_noRow_1 9 rfl rfl)
abbrev cX5_kept : ByteArray := prog_17_method_14_code
def yX5_kept : MethodName := ⟨RX5, "kept", "(IJ)J"⟩
def dkwX5_kept_3 : List UInt8 := [167, 0, 4, 9, 173]
abbrev dktX5_kept_3 : List UInt8 := dkwX5_kept_3 ++ []
def dkwX5_kept_2 : List UInt8 := [31, 136, 145, 133, 173, 31, 136, 147, 133, 173, 31, 136, 133, 173, 31, 173, 31, 9, 148, 153, 0, 7, 10]
abbrev dktX5_kept_2 : List UInt8 := dkwX5_kept_2 ++ dktX5_kept_3
def dkwX5_kept_1 : List UInt8 := [170, 0, 0, 0, 0, 0, 47, 0, 0, 0, 0, 0, 0, 0, 3, 0, 0, 0, 31, 0, 0, 0, 36, 0, 0, 0, 41, 0, 0, 0, 45]
abbrev dktX5_kept_1 : List UInt8 := dkwX5_kept_1 ++ dktX5_kept_2
def dkwX5_kept_0 : List UInt8 := [26]
abbrev dktX5_kept_0 : List UInt8 := dkwX5_kept_0 ++ dktX5_kept_1
theorem dksX5_kept_0 : cX5_kept.data.toList.drop 0 = dktX5_kept_0 := by decide +kernel
theorem dksX5_kept_1 : cX5_kept.data.toList.drop 1 = dktX5_kept_1 := dk_seg dksX5_kept_0 1 rfl rfl
theorem dksX5_kept_2 : cX5_kept.data.toList.drop 32 = dktX5_kept_2 := dk_seg dksX5_kept_1 31 rfl rfl
theorem dksX5_kept_3 : cX5_kept.data.toList.drop 55 = dktX5_kept_3 := dk_seg dksX5_kept_2 23 rfl rfl
theorem dX5_kept_0 : decode cX5_kept 0 = .ok (.iload_n 0, 1) := dk_26 (dk_at dksX5_kept_0 0 rfl rfl)
theorem dX5_kept_1 : decode cX5_kept 1 = .ok (.tableswitch 47 0 3 #[31, 36, 41, 45], 31) := by decide +kernel
theorem dX5_kept_32 : decode cX5_kept 32 = .ok (.lload_n 1, 1) := dk_31 (dk_at dksX5_kept_2 0 rfl rfl)
theorem dX5_kept_33 : decode cX5_kept 33 = .ok (.l2i, 1) := dk_136 (dk_at dksX5_kept_2 1 rfl rfl)
theorem dX5_kept_34 : decode cX5_kept 34 = .ok (.i2b, 1) := dk_145 (dk_at dksX5_kept_2 2 rfl rfl)
theorem dX5_kept_35 : decode cX5_kept 35 = .ok (.i2l, 1) := dk_133 (dk_at dksX5_kept_2 3 rfl rfl)
theorem dX5_kept_36 : decode cX5_kept 36 = .ok (.lreturn, 1) := dk_173 (dk_at dksX5_kept_2 4 rfl rfl)
theorem dX5_kept_37 : decode cX5_kept 37 = .ok (.lload_n 1, 1) := dk_31 (dk_at dksX5_kept_2 5 rfl rfl)
theorem dX5_kept_38 : decode cX5_kept 38 = .ok (.l2i, 1) := dk_136 (dk_at dksX5_kept_2 6 rfl rfl)
theorem dX5_kept_39 : decode cX5_kept 39 = .ok (.i2s, 1) := dk_147 (dk_at dksX5_kept_2 7 rfl rfl)
theorem dX5_kept_40 : decode cX5_kept 40 = .ok (.i2l, 1) := dk_133 (dk_at dksX5_kept_2 8 rfl rfl)
theorem dX5_kept_41 : decode cX5_kept 41 = .ok (.lreturn, 1) := dk_173 (dk_at dksX5_kept_2 9 rfl rfl)
theorem dX5_kept_42 : decode cX5_kept 42 = .ok (.lload_n 1, 1) := dk_31 (dk_at dksX5_kept_2 10 rfl rfl)
theorem dX5_kept_43 : decode cX5_kept 43 = .ok (.l2i, 1) := dk_136 (dk_at dksX5_kept_2 11 rfl rfl)
theorem dX5_kept_44 : decode cX5_kept 44 = .ok (.i2l, 1) := dk_133 (dk_at dksX5_kept_2 12 rfl rfl)
theorem dX5_kept_45 : decode cX5_kept 45 = .ok (.lreturn, 1) := dk_173 (dk_at dksX5_kept_2 13 rfl rfl)
theorem dX5_kept_46 : decode cX5_kept 46 = .ok (.lload_n 1, 1) := dk_31 (dk_at dksX5_kept_2 14 rfl rfl)
theorem dX5_kept_47 : decode cX5_kept 47 = .ok (.lreturn, 1) := dk_173 (dk_at dksX5_kept_2 15 rfl rfl)
theorem dX5_kept_48 : decode cX5_kept 48 = .ok (.lload_n 1, 1) := dk_31 (dk_at dksX5_kept_2 16 rfl rfl)
theorem dX5_kept_49 : decode cX5_kept 49 = .ok (.lconst 0, 1) := dk_9 (dk_at dksX5_kept_2 17 rfl rfl)
theorem dX5_kept_50 : decode cX5_kept 50 = .ok (.lcmp, 1) := dk_148 (dk_at dksX5_kept_2 18 rfl rfl)
theorem dX5_kept_51 : decode cX5_kept 51 = .ok (.ifCond .eq 7, 3) := dk_153 0 7 (dk_at dksX5_kept_2 19 rfl rfl)
theorem dX5_kept_54 : decode cX5_kept 54 = .ok (.lconst 1, 1) := dk_10 (dk_at dksX5_kept_2 22 rfl rfl)
theorem dX5_kept_55 : decode cX5_kept 55 = .ok (.goto 4, 3) := dk_167 0 4 (dk_at dksX5_kept_3 0 rfl rfl)
theorem dX5_kept_58 : decode cX5_kept 58 = .ok (.lconst 0, 1) := dk_9 (dk_at dksX5_kept_3 3 rfl rfl)
theorem dX5_kept_59 : decode cX5_kept 59 = .ok (.lreturn, 1) := dk_173 (dk_at dksX5_kept_3 4 rfl rfl)
abbrev cX5_copy : ByteArray := prog_17_method_16_code
def yX5_copy : MethodName := ⟨RX5, "copy", "(IIIII)I"⟩
def dkwX5_copy_11 : List UInt8 := [21, 6, 96, 47, 80, 132, 6, 1, 167, 255, 217, 21, 5, 172]
abbrev dktX5_copy_11 : List UInt8 := dkwX5_copy_11 ++ []
def dkwX5_copy_10 : List UInt8 := [42, 180, 0, 43, 16, 40, 28, 104, 21, 4, 96, 21, 6, 96, 42, 180, 0, 43, 16, 40, 27, 104, 29, 96]
abbrev dktX5_copy_10 : List UInt8 := dkwX5_copy_10 ++ dktX5_copy_11
def dkwX5_copy_9 : List UInt8 := [21, 6, 96, 47, 80, 132, 6, 255, 167, 255, 219, 167, 0, 48, 3, 54, 6, 21, 6, 21, 5, 162, 0, 38]
abbrev dktX5_copy_9 : List UInt8 := dkwX5_copy_9 ++ dktX5_copy_10
def dkwX5_copy_8 : List UInt8 := [180, 0, 43, 16, 40, 28, 104, 21, 4, 96, 21, 6, 96, 42, 180, 0, 43, 16, 40, 27, 104, 29, 96]
abbrev dktX5_copy_8 : List UInt8 := dkwX5_copy_8 ++ dktX5_copy_9
def dkwX5_copy_7 : List UInt8 := [28, 160, 0, 58, 29, 21, 4, 162, 0, 52, 21, 5, 4, 100, 54, 6, 21, 6, 155, 0, 38, 42]
abbrev dktX5_copy_7 : List UInt8 := dkwX5_copy_7 ++ dktX5_copy_8
def dkwX5_copy_6 : List UInt8 := [133, 21, 5, 133, 97, 42, 180, 0, 40, 28, 46, 133, 148, 158, 0, 10, 42, 16, 254, 182, 0, 96, 172, 27]
abbrev dktX5_copy_6 : List UInt8 := dkwX5_copy_6 ++ dktX5_copy_7
def dkwX5_copy_5 : List UInt8 := [21, 4, 155, 0, 38, 29, 133, 21, 5, 133, 97, 42, 180, 0, 40, 27, 46, 133, 148, 157, 0, 21, 21, 4]
abbrev dktX5_copy_5 : List UInt8 := dkwX5_copy_5 ++ dktX5_copy_6
def dkwX5_copy_4 : List UInt8 := [180, 0, 37, 28, 46, 156, 0, 10, 42, 16, 252, 182, 0, 96, 172, 21, 5, 155, 0, 47, 29, 155, 0, 43]
abbrev dktX5_copy_4 : List UInt8 := dkwX5_copy_4 ++ dktX5_copy_5
def dkwX5_copy_3 : List UInt8 := [28, 46, 159, 0, 10, 42, 16, 253, 182, 0, 96, 172, 42, 180, 0, 37, 27, 46, 155, 0, 12, 42]
abbrev dktX5_copy_3 : List UInt8 := dkwX5_copy_3 ++ dktX5_copy_4
def dkwX5_copy_2 : List UInt8 := [182, 0, 100, 153, 0, 33, 42, 28, 182, 0, 100, 153, 0, 25, 42, 180, 0, 37, 27, 46, 42, 180, 0, 37]
abbrev dktX5_copy_2 : List UInt8 := dkwX5_copy_2 ++ dktX5_copy_3
def dkwX5_copy_1 : List UInt8 := [180, 0, 37, 27, 46, 16, 10, 162, 0, 45, 42, 180, 0, 37, 28, 46, 16, 10, 162, 0, 34, 42, 27]
abbrev dktX5_copy_1 : List UInt8 := dkwX5_copy_1 ++ dktX5_copy_2
def dkwX5_copy_0 : List UInt8 := [27, 184, 0, 92, 153, 0, 10, 28, 184, 0, 92, 154, 0, 10, 42, 16, 254, 182, 0, 96, 172, 42]
abbrev dktX5_copy_0 : List UInt8 := dkwX5_copy_0 ++ dktX5_copy_1
theorem dksX5_copy_0 : cX5_copy.data.toList.drop 0 = dktX5_copy_0 := by decide +kernel
theorem dksX5_copy_1 : cX5_copy.data.toList.drop 22 = dktX5_copy_1 := dk_seg dksX5_copy_0 22 rfl rfl
theorem dksX5_copy_2 : cX5_copy.data.toList.drop 45 = dktX5_copy_2 := dk_seg dksX5_copy_1 23 rfl rfl
theorem dksX5_copy_3 : cX5_copy.data.toList.drop 69 = dktX5_copy_3 := dk_seg dksX5_copy_2 24 rfl rfl
theorem dksX5_copy_4 : cX5_copy.data.toList.drop 91 = dktX5_copy_4 := dk_seg dksX5_copy_3 22 rfl rfl
theorem dksX5_copy_5 : cX5_copy.data.toList.drop 115 = dktX5_copy_5 := dk_seg dksX5_copy_4 24 rfl rfl
theorem dksX5_copy_6 : cX5_copy.data.toList.drop 139 = dktX5_copy_6 := dk_seg dksX5_copy_5 24 rfl rfl
theorem dksX5_copy_7 : cX5_copy.data.toList.drop 163 = dktX5_copy_7 := dk_seg dksX5_copy_6 24 rfl rfl
theorem dksX5_copy_8 : cX5_copy.data.toList.drop 185 = dktX5_copy_8 := dk_seg dksX5_copy_7 22 rfl rfl
theorem dksX5_copy_9 : cX5_copy.data.toList.drop 208 = dktX5_copy_9 := dk_seg dksX5_copy_8 23 rfl rfl
theorem dksX5_copy_10 : cX5_copy.data.toList.drop 232 = dktX5_copy_10 := dk_seg dksX5_copy_9 24 rfl rfl
theorem dksX5_copy_11 : cX5_copy.data.toList.drop 256 = dktX5_copy_11 := dk_seg dksX5_copy_10 24 rfl rfl
theorem dX5_copy_0 : decode cX5_copy 0 = .ok (.iload_n 1, 1) := dk_27 (dk_at dksX5_copy_0 0 rfl rfl)
theorem dX5_copy_1 : decode cX5_copy 1 = .ok (.invokestatic 92, 3) := dk_184 0 92 (dk_at dksX5_copy_0 1 rfl rfl)
theorem dX5_copy_4 : decode cX5_copy 4 = .ok (.ifCond .eq 10, 3) := dk_153 0 10 (dk_at dksX5_copy_0 4 rfl rfl)
theorem dX5_copy_7 : decode cX5_copy 7 = .ok (.iload_n 2, 1) := dk_28 (dk_at dksX5_copy_0 7 rfl rfl)
theorem dX5_copy_8 : decode cX5_copy 8 = .ok (.invokestatic 92, 3) := dk_184 0 92 (dk_at dksX5_copy_0 8 rfl rfl)
theorem dX5_copy_11 : decode cX5_copy 11 = .ok (.ifCond .ne 10, 3) := dk_154 0 10 (dk_at dksX5_copy_0 11 rfl rfl)
theorem dX5_copy_14 : decode cX5_copy 14 = .ok (.aload_n 0, 1) := dk_42 (dk_at dksX5_copy_0 14 rfl rfl)
theorem dX5_copy_15 : decode cX5_copy 15 = .ok (.bipush (-2), 2) := dk_16 254 (dk_at dksX5_copy_0 15 rfl rfl)
theorem dX5_copy_17 : decode cX5_copy 17 = .ok (.invokevirtual 96, 3) := dk_182 0 96 (dk_at dksX5_copy_0 17 rfl rfl)
theorem dX5_copy_20 : decode cX5_copy 20 = .ok (.ireturn, 1) := dk_172 (dk_at dksX5_copy_0 20 rfl rfl)
theorem dX5_copy_21 : decode cX5_copy 21 = .ok (.aload_n 0, 1) := dk_42 (dk_at dksX5_copy_0 21 rfl rfl)
theorem dX5_copy_22 : decode cX5_copy 22 = .ok (.getfield 37, 3) := dk_180 0 37 (dk_at dksX5_copy_1 0 rfl rfl)
theorem dX5_copy_25 : decode cX5_copy 25 = .ok (.iload_n 1, 1) := dk_27 (dk_at dksX5_copy_1 3 rfl rfl)
theorem dX5_copy_26 : decode cX5_copy 26 = .ok (.iaload, 1) := dk_46 (dk_at dksX5_copy_1 4 rfl rfl)
theorem dX5_copy_27 : decode cX5_copy 27 = .ok (.bipush 10, 2) := dk_16 10 (dk_at dksX5_copy_1 5 rfl rfl)
theorem dX5_copy_29 : decode cX5_copy 29 = .ok (.if_icmp .ge 45, 3) := dk_162 0 45 (dk_at dksX5_copy_1 7 rfl rfl)
theorem dX5_copy_32 : decode cX5_copy 32 = .ok (.aload_n 0, 1) := dk_42 (dk_at dksX5_copy_1 10 rfl rfl)
theorem dX5_copy_33 : decode cX5_copy 33 = .ok (.getfield 37, 3) := dk_180 0 37 (dk_at dksX5_copy_1 11 rfl rfl)
theorem dX5_copy_36 : decode cX5_copy 36 = .ok (.iload_n 2, 1) := dk_28 (dk_at dksX5_copy_1 14 rfl rfl)
theorem dX5_copy_37 : decode cX5_copy 37 = .ok (.iaload, 1) := dk_46 (dk_at dksX5_copy_1 15 rfl rfl)
theorem dX5_copy_38 : decode cX5_copy 38 = .ok (.bipush 10, 2) := dk_16 10 (dk_at dksX5_copy_1 16 rfl rfl)
theorem dX5_copy_40 : decode cX5_copy 40 = .ok (.if_icmp .ge 34, 3) := dk_162 0 34 (dk_at dksX5_copy_1 18 rfl rfl)
theorem dX5_copy_43 : decode cX5_copy 43 = .ok (.aload_n 0, 1) := dk_42 (dk_at dksX5_copy_1 21 rfl rfl)
theorem dX5_copy_44 : decode cX5_copy 44 = .ok (.iload_n 1, 1) := dk_27 (dk_at dksX5_copy_1 22 rfl rfl)
theorem dX5_copy_45 : decode cX5_copy 45 = .ok (.invokevirtual 100, 3) := dk_182 0 100 (dk_at dksX5_copy_2 0 rfl rfl)
theorem dX5_copy_48 : decode cX5_copy 48 = .ok (.ifCond .eq 33, 3) := dk_153 0 33 (dk_at dksX5_copy_2 3 rfl rfl)
theorem dX5_copy_51 : decode cX5_copy 51 = .ok (.aload_n 0, 1) := dk_42 (dk_at dksX5_copy_2 6 rfl rfl)
theorem dX5_copy_52 : decode cX5_copy 52 = .ok (.iload_n 2, 1) := dk_28 (dk_at dksX5_copy_2 7 rfl rfl)
theorem dX5_copy_53 : decode cX5_copy 53 = .ok (.invokevirtual 100, 3) := dk_182 0 100 (dk_at dksX5_copy_2 8 rfl rfl)
theorem dX5_copy_56 : decode cX5_copy 56 = .ok (.ifCond .eq 25, 3) := dk_153 0 25 (dk_at dksX5_copy_2 11 rfl rfl)
theorem dX5_copy_59 : decode cX5_copy 59 = .ok (.aload_n 0, 1) := dk_42 (dk_at dksX5_copy_2 14 rfl rfl)
theorem dX5_copy_60 : decode cX5_copy 60 = .ok (.getfield 37, 3) := dk_180 0 37 (dk_at dksX5_copy_2 15 rfl rfl)
theorem dX5_copy_63 : decode cX5_copy 63 = .ok (.iload_n 1, 1) := dk_27 (dk_at dksX5_copy_2 18 rfl rfl)
theorem dX5_copy_64 : decode cX5_copy 64 = .ok (.iaload, 1) := dk_46 (dk_at dksX5_copy_2 19 rfl rfl)
theorem dX5_copy_65 : decode cX5_copy 65 = .ok (.aload_n 0, 1) := dk_42 (dk_at dksX5_copy_2 20 rfl rfl)
theorem dX5_copy_66 : decode cX5_copy 66 = .ok (.getfield 37, 3) := dk_180 0 37 (dk_at dksX5_copy_2 21 rfl rfl)
theorem dX5_copy_69 : decode cX5_copy 69 = .ok (.iload_n 2, 1) := dk_28 (dk_at dksX5_copy_3 0 rfl rfl)
theorem dX5_copy_70 : decode cX5_copy 70 = .ok (.iaload, 1) := dk_46 (dk_at dksX5_copy_3 1 rfl rfl)
theorem dX5_copy_71 : decode cX5_copy 71 = .ok (.if_icmp .eq 10, 3) := dk_159 0 10 (dk_at dksX5_copy_3 2 rfl rfl)
theorem dX5_copy_74 : decode cX5_copy 74 = .ok (.aload_n 0, 1) := dk_42 (dk_at dksX5_copy_3 5 rfl rfl)
theorem dX5_copy_75 : decode cX5_copy 75 = .ok (.bipush (-3), 2) := dk_16 253 (dk_at dksX5_copy_3 6 rfl rfl)
theorem dX5_copy_77 : decode cX5_copy 77 = .ok (.invokevirtual 96, 3) := dk_182 0 96 (dk_at dksX5_copy_3 8 rfl rfl)
theorem dX5_copy_80 : decode cX5_copy 80 = .ok (.ireturn, 1) := dk_172 (dk_at dksX5_copy_3 11 rfl rfl)
theorem dX5_copy_81 : decode cX5_copy 81 = .ok (.aload_n 0, 1) := dk_42 (dk_at dksX5_copy_3 12 rfl rfl)
theorem dX5_copy_82 : decode cX5_copy 82 = .ok (.getfield 37, 3) := dk_180 0 37 (dk_at dksX5_copy_3 13 rfl rfl)
theorem dX5_copy_85 : decode cX5_copy 85 = .ok (.iload_n 1, 1) := dk_27 (dk_at dksX5_copy_3 16 rfl rfl)
theorem dX5_copy_86 : decode cX5_copy 86 = .ok (.iaload, 1) := dk_46 (dk_at dksX5_copy_3 17 rfl rfl)
theorem dX5_copy_87 : decode cX5_copy 87 = .ok (.ifCond .lt 12, 3) := dk_155 0 12 (dk_at dksX5_copy_3 18 rfl rfl)
theorem dX5_copy_90 : decode cX5_copy 90 = .ok (.aload_n 0, 1) := dk_42 (dk_at dksX5_copy_3 21 rfl rfl)
theorem dX5_copy_91 : decode cX5_copy 91 = .ok (.getfield 37, 3) := dk_180 0 37 (dk_at dksX5_copy_4 0 rfl rfl)
theorem dX5_copy_94 : decode cX5_copy 94 = .ok (.iload_n 2, 1) := dk_28 (dk_at dksX5_copy_4 3 rfl rfl)
theorem dX5_copy_95 : decode cX5_copy 95 = .ok (.iaload, 1) := dk_46 (dk_at dksX5_copy_4 4 rfl rfl)
theorem dX5_copy_96 : decode cX5_copy 96 = .ok (.ifCond .ge 10, 3) := dk_156 0 10 (dk_at dksX5_copy_4 5 rfl rfl)
theorem dX5_copy_99 : decode cX5_copy 99 = .ok (.aload_n 0, 1) := dk_42 (dk_at dksX5_copy_4 8 rfl rfl)
theorem dX5_copy_100 : decode cX5_copy 100 = .ok (.bipush (-4), 2) := dk_16 252 (dk_at dksX5_copy_4 9 rfl rfl)
theorem dX5_copy_102 : decode cX5_copy 102 = .ok (.invokevirtual 96, 3) := dk_182 0 96 (dk_at dksX5_copy_4 11 rfl rfl)
theorem dX5_copy_105 : decode cX5_copy 105 = .ok (.ireturn, 1) := dk_172 (dk_at dksX5_copy_4 14 rfl rfl)
theorem dX5_copy_106 : decode cX5_copy 106 = .ok (.iload 5, 2) := dk_21 5 (dk_at dksX5_copy_4 15 rfl rfl)
theorem dX5_copy_108 : decode cX5_copy 108 = .ok (.ifCond .lt 47, 3) := dk_155 0 47 (dk_at dksX5_copy_4 17 rfl rfl)
theorem dX5_copy_111 : decode cX5_copy 111 = .ok (.iload_n 3, 1) := dk_29 (dk_at dksX5_copy_4 20 rfl rfl)
theorem dX5_copy_112 : decode cX5_copy 112 = .ok (.ifCond .lt 43, 3) := dk_155 0 43 (dk_at dksX5_copy_4 21 rfl rfl)
theorem dX5_copy_115 : decode cX5_copy 115 = .ok (.iload 4, 2) := dk_21 4 (dk_at dksX5_copy_5 0 rfl rfl)
theorem dX5_copy_117 : decode cX5_copy 117 = .ok (.ifCond .lt 38, 3) := dk_155 0 38 (dk_at dksX5_copy_5 2 rfl rfl)
theorem dX5_copy_120 : decode cX5_copy 120 = .ok (.iload_n 3, 1) := dk_29 (dk_at dksX5_copy_5 5 rfl rfl)
theorem dX5_copy_121 : decode cX5_copy 121 = .ok (.i2l, 1) := dk_133 (dk_at dksX5_copy_5 6 rfl rfl)
theorem dX5_copy_122 : decode cX5_copy 122 = .ok (.iload 5, 2) := dk_21 5 (dk_at dksX5_copy_5 7 rfl rfl)
theorem dX5_copy_124 : decode cX5_copy 124 = .ok (.i2l, 1) := dk_133 (dk_at dksX5_copy_5 9 rfl rfl)
theorem dX5_copy_125 : decode cX5_copy 125 = .ok (.ladd, 1) := dk_97 (dk_at dksX5_copy_5 10 rfl rfl)
theorem dX5_copy_126 : decode cX5_copy 126 = .ok (.aload_n 0, 1) := dk_42 (dk_at dksX5_copy_5 11 rfl rfl)
theorem dX5_copy_127 : decode cX5_copy 127 = .ok (.getfield 40, 3) := dk_180 0 40 (dk_at dksX5_copy_5 12 rfl rfl)
theorem dX5_copy_130 : decode cX5_copy 130 = .ok (.iload_n 1, 1) := dk_27 (dk_at dksX5_copy_5 15 rfl rfl)
theorem dX5_copy_131 : decode cX5_copy 131 = .ok (.iaload, 1) := dk_46 (dk_at dksX5_copy_5 16 rfl rfl)
theorem dX5_copy_132 : decode cX5_copy 132 = .ok (.i2l, 1) := dk_133 (dk_at dksX5_copy_5 17 rfl rfl)
theorem dX5_copy_133 : decode cX5_copy 133 = .ok (.lcmp, 1) := dk_148 (dk_at dksX5_copy_5 18 rfl rfl)
theorem dX5_copy_134 : decode cX5_copy 134 = .ok (.ifCond .gt 21, 3) := dk_157 0 21 (dk_at dksX5_copy_5 19 rfl rfl)
theorem dX5_copy_137 : decode cX5_copy 137 = .ok (.iload 4, 2) := dk_21 4 (dk_at dksX5_copy_5 22 rfl rfl)
theorem dX5_copy_139 : decode cX5_copy 139 = .ok (.i2l, 1) := dk_133 (dk_at dksX5_copy_6 0 rfl rfl)
theorem dX5_copy_140 : decode cX5_copy 140 = .ok (.iload 5, 2) := dk_21 5 (dk_at dksX5_copy_6 1 rfl rfl)
theorem dX5_copy_142 : decode cX5_copy 142 = .ok (.i2l, 1) := dk_133 (dk_at dksX5_copy_6 3 rfl rfl)
theorem dX5_copy_143 : decode cX5_copy 143 = .ok (.ladd, 1) := dk_97 (dk_at dksX5_copy_6 4 rfl rfl)
theorem dX5_copy_144 : decode cX5_copy 144 = .ok (.aload_n 0, 1) := dk_42 (dk_at dksX5_copy_6 5 rfl rfl)
theorem dX5_copy_145 : decode cX5_copy 145 = .ok (.getfield 40, 3) := dk_180 0 40 (dk_at dksX5_copy_6 6 rfl rfl)
theorem dX5_copy_148 : decode cX5_copy 148 = .ok (.iload_n 2, 1) := dk_28 (dk_at dksX5_copy_6 9 rfl rfl)
theorem dX5_copy_149 : decode cX5_copy 149 = .ok (.iaload, 1) := dk_46 (dk_at dksX5_copy_6 10 rfl rfl)
theorem dX5_copy_150 : decode cX5_copy 150 = .ok (.i2l, 1) := dk_133 (dk_at dksX5_copy_6 11 rfl rfl)
theorem dX5_copy_151 : decode cX5_copy 151 = .ok (.lcmp, 1) := dk_148 (dk_at dksX5_copy_6 12 rfl rfl)
theorem dX5_copy_152 : decode cX5_copy 152 = .ok (.ifCond .le 10, 3) := dk_158 0 10 (dk_at dksX5_copy_6 13 rfl rfl)
theorem dX5_copy_155 : decode cX5_copy 155 = .ok (.aload_n 0, 1) := dk_42 (dk_at dksX5_copy_6 16 rfl rfl)
theorem dX5_copy_156 : decode cX5_copy 156 = .ok (.bipush (-2), 2) := dk_16 254 (dk_at dksX5_copy_6 17 rfl rfl)
theorem dX5_copy_158 : decode cX5_copy 158 = .ok (.invokevirtual 96, 3) := dk_182 0 96 (dk_at dksX5_copy_6 19 rfl rfl)
theorem dX5_copy_161 : decode cX5_copy 161 = .ok (.ireturn, 1) := dk_172 (dk_at dksX5_copy_6 22 rfl rfl)
theorem dX5_copy_162 : decode cX5_copy 162 = .ok (.iload_n 1, 1) := dk_27 (dk_at dksX5_copy_6 23 rfl rfl)
theorem dX5_copy_163 : decode cX5_copy 163 = .ok (.iload_n 2, 1) := dk_28 (dk_at dksX5_copy_7 0 rfl rfl)
theorem dX5_copy_164 : decode cX5_copy 164 = .ok (.if_icmp .ne 58, 3) := dk_160 0 58 (dk_at dksX5_copy_7 1 rfl rfl)
theorem dX5_copy_167 : decode cX5_copy 167 = .ok (.iload_n 3, 1) := dk_29 (dk_at dksX5_copy_7 4 rfl rfl)
theorem dX5_copy_168 : decode cX5_copy 168 = .ok (.iload 4, 2) := dk_21 4 (dk_at dksX5_copy_7 5 rfl rfl)
theorem dX5_copy_170 : decode cX5_copy 170 = .ok (.if_icmp .ge 52, 3) := dk_162 0 52 (dk_at dksX5_copy_7 7 rfl rfl)
theorem dX5_copy_173 : decode cX5_copy 173 = .ok (.iload 5, 2) := dk_21 5 (dk_at dksX5_copy_7 10 rfl rfl)
theorem dX5_copy_175 : decode cX5_copy 175 = .ok (.iconst 1, 1) := dk_4 (dk_at dksX5_copy_7 12 rfl rfl)
theorem dX5_copy_176 : decode cX5_copy 176 = .ok (.isub, 1) := dk_100 (dk_at dksX5_copy_7 13 rfl rfl)
theorem dX5_copy_177 : decode cX5_copy 177 = .ok (.istore 6, 2) := dk_54 6 (dk_at dksX5_copy_7 14 rfl rfl)
theorem dX5_copy_179 : decode cX5_copy 179 = .ok (.iload 6, 2) := dk_21 6 (dk_at dksX5_copy_7 16 rfl rfl)
theorem dX5_copy_181 : decode cX5_copy 181 = .ok (.ifCond .lt 38, 3) := dk_155 0 38 (dk_at dksX5_copy_7 18 rfl rfl)
theorem dX5_copy_184 : decode cX5_copy 184 = .ok (.aload_n 0, 1) := dk_42 (dk_at dksX5_copy_7 21 rfl rfl)
theorem dX5_copy_185 : decode cX5_copy 185 = .ok (.getfield 43, 3) := dk_180 0 43 (dk_at dksX5_copy_8 0 rfl rfl)
theorem dX5_copy_188 : decode cX5_copy 188 = .ok (.bipush 40, 2) := dk_16 40 (dk_at dksX5_copy_8 3 rfl rfl)
theorem dX5_copy_190 : decode cX5_copy 190 = .ok (.iload_n 2, 1) := dk_28 (dk_at dksX5_copy_8 5 rfl rfl)
theorem dX5_copy_191 : decode cX5_copy 191 = .ok (.imul, 1) := dk_104 (dk_at dksX5_copy_8 6 rfl rfl)
theorem dX5_copy_192 : decode cX5_copy 192 = .ok (.iload 4, 2) := dk_21 4 (dk_at dksX5_copy_8 7 rfl rfl)
theorem dX5_copy_194 : decode cX5_copy 194 = .ok (.iadd, 1) := dk_96 (dk_at dksX5_copy_8 9 rfl rfl)
theorem dX5_copy_195 : decode cX5_copy 195 = .ok (.iload 6, 2) := dk_21 6 (dk_at dksX5_copy_8 10 rfl rfl)
theorem dX5_copy_197 : decode cX5_copy 197 = .ok (.iadd, 1) := dk_96 (dk_at dksX5_copy_8 12 rfl rfl)
theorem dX5_copy_198 : decode cX5_copy 198 = .ok (.aload_n 0, 1) := dk_42 (dk_at dksX5_copy_8 13 rfl rfl)
theorem dX5_copy_199 : decode cX5_copy 199 = .ok (.getfield 43, 3) := dk_180 0 43 (dk_at dksX5_copy_8 14 rfl rfl)
theorem dX5_copy_202 : decode cX5_copy 202 = .ok (.bipush 40, 2) := dk_16 40 (dk_at dksX5_copy_8 17 rfl rfl)
theorem dX5_copy_204 : decode cX5_copy 204 = .ok (.iload_n 1, 1) := dk_27 (dk_at dksX5_copy_8 19 rfl rfl)
theorem dX5_copy_205 : decode cX5_copy 205 = .ok (.imul, 1) := dk_104 (dk_at dksX5_copy_8 20 rfl rfl)
theorem dX5_copy_206 : decode cX5_copy 206 = .ok (.iload_n 3, 1) := dk_29 (dk_at dksX5_copy_8 21 rfl rfl)
theorem dX5_copy_207 : decode cX5_copy 207 = .ok (.iadd, 1) := dk_96 (dk_at dksX5_copy_8 22 rfl rfl)
theorem dX5_copy_208 : decode cX5_copy 208 = .ok (.iload 6, 2) := dk_21 6 (dk_at dksX5_copy_9 0 rfl rfl)
theorem dX5_copy_210 : decode cX5_copy 210 = .ok (.iadd, 1) := dk_96 (dk_at dksX5_copy_9 2 rfl rfl)
theorem dX5_copy_211 : decode cX5_copy 211 = .ok (.laload, 1) := dk_47 (dk_at dksX5_copy_9 3 rfl rfl)
theorem dX5_copy_212 : decode cX5_copy 212 = .ok (.lastore, 1) := dk_80 (dk_at dksX5_copy_9 4 rfl rfl)
theorem dX5_copy_213 : decode cX5_copy 213 = .ok (.iinc 6 (-1), 3) := dk_132 6 255 (dk_at dksX5_copy_9 5 rfl rfl)
theorem dX5_copy_216 : decode cX5_copy 216 = .ok (.goto (-37), 3) := dk_167 255 219 (dk_at dksX5_copy_9 8 rfl rfl)
theorem dX5_copy_219 : decode cX5_copy 219 = .ok (.goto 48, 3) := dk_167 0 48 (dk_at dksX5_copy_9 11 rfl rfl)
theorem dX5_copy_222 : decode cX5_copy 222 = .ok (.iconst 0, 1) := dk_3 (dk_at dksX5_copy_9 14 rfl rfl)
theorem dX5_copy_223 : decode cX5_copy 223 = .ok (.istore 6, 2) := dk_54 6 (dk_at dksX5_copy_9 15 rfl rfl)
theorem dX5_copy_225 : decode cX5_copy 225 = .ok (.iload 6, 2) := dk_21 6 (dk_at dksX5_copy_9 17 rfl rfl)
theorem dX5_copy_227 : decode cX5_copy 227 = .ok (.iload 5, 2) := dk_21 5 (dk_at dksX5_copy_9 19 rfl rfl)
theorem dX5_copy_229 : decode cX5_copy 229 = .ok (.if_icmp .ge 38, 3) := dk_162 0 38 (dk_at dksX5_copy_9 21 rfl rfl)
theorem dX5_copy_232 : decode cX5_copy 232 = .ok (.aload_n 0, 1) := dk_42 (dk_at dksX5_copy_10 0 rfl rfl)
theorem dX5_copy_233 : decode cX5_copy 233 = .ok (.getfield 43, 3) := dk_180 0 43 (dk_at dksX5_copy_10 1 rfl rfl)
theorem dX5_copy_236 : decode cX5_copy 236 = .ok (.bipush 40, 2) := dk_16 40 (dk_at dksX5_copy_10 4 rfl rfl)
theorem dX5_copy_238 : decode cX5_copy 238 = .ok (.iload_n 2, 1) := dk_28 (dk_at dksX5_copy_10 6 rfl rfl)
theorem dX5_copy_239 : decode cX5_copy 239 = .ok (.imul, 1) := dk_104 (dk_at dksX5_copy_10 7 rfl rfl)
theorem dX5_copy_240 : decode cX5_copy 240 = .ok (.iload 4, 2) := dk_21 4 (dk_at dksX5_copy_10 8 rfl rfl)
theorem dX5_copy_242 : decode cX5_copy 242 = .ok (.iadd, 1) := dk_96 (dk_at dksX5_copy_10 10 rfl rfl)
theorem dX5_copy_243 : decode cX5_copy 243 = .ok (.iload 6, 2) := dk_21 6 (dk_at dksX5_copy_10 11 rfl rfl)
theorem dX5_copy_245 : decode cX5_copy 245 = .ok (.iadd, 1) := dk_96 (dk_at dksX5_copy_10 13 rfl rfl)
theorem dX5_copy_246 : decode cX5_copy 246 = .ok (.aload_n 0, 1) := dk_42 (dk_at dksX5_copy_10 14 rfl rfl)
theorem dX5_copy_247 : decode cX5_copy 247 = .ok (.getfield 43, 3) := dk_180 0 43 (dk_at dksX5_copy_10 15 rfl rfl)
theorem dX5_copy_250 : decode cX5_copy 250 = .ok (.bipush 40, 2) := dk_16 40 (dk_at dksX5_copy_10 18 rfl rfl)
theorem dX5_copy_252 : decode cX5_copy 252 = .ok (.iload_n 1, 1) := dk_27 (dk_at dksX5_copy_10 20 rfl rfl)
theorem dX5_copy_253 : decode cX5_copy 253 = .ok (.imul, 1) := dk_104 (dk_at dksX5_copy_10 21 rfl rfl)
theorem dX5_copy_254 : decode cX5_copy 254 = .ok (.iload_n 3, 1) := dk_29 (dk_at dksX5_copy_10 22 rfl rfl)
theorem dX5_copy_255 : decode cX5_copy 255 = .ok (.iadd, 1) := dk_96 (dk_at dksX5_copy_10 23 rfl rfl)
theorem dX5_copy_256 : decode cX5_copy 256 = .ok (.iload 6, 2) := dk_21 6 (dk_at dksX5_copy_11 0 rfl rfl)
theorem dX5_copy_258 : decode cX5_copy 258 = .ok (.iadd, 1) := dk_96 (dk_at dksX5_copy_11 2 rfl rfl)
theorem dX5_copy_259 : decode cX5_copy 259 = .ok (.laload, 1) := dk_47 (dk_at dksX5_copy_11 3 rfl rfl)
theorem dX5_copy_260 : decode cX5_copy 260 = .ok (.lastore, 1) := dk_80 (dk_at dksX5_copy_11 4 rfl rfl)
theorem dX5_copy_261 : decode cX5_copy 261 = .ok (.iinc 6 1, 3) := dk_132 6 1 (dk_at dksX5_copy_11 5 rfl rfl)
theorem dX5_copy_264 : decode cX5_copy 264 = .ok (.goto (-39), 3) := dk_167 255 217 (dk_at dksX5_copy_11 8 rfl rfl)
theorem dX5_copy_267 : decode cX5_copy 267 = .ok (.iload 5, 2) := dk_21 5 (dk_at dksX5_copy_11 11 rfl rfl)
theorem dX5_copy_269 : decode cX5_copy 269 = .ok (.ireturn, 1) := dk_172 (dk_at dksX5_copy_11 13 rfl rfl)
abbrev cX5_element : ByteArray := prog_17_method_17_code
def yX5_element : MethodName := ⟨RX5, "element", "(II)J"⟩
def dkwX5_element_1 : List UInt8 := [100, 184, 0, 85, 153, 0, 17, 42, 180, 0, 43, 16, 40, 27, 104, 28, 96, 47, 167, 0, 4, 9, 173]
abbrev dktX5_element_1 : List UInt8 := dkwX5_element_1 ++ []
def dkwX5_element_0 : List UInt8 := [27, 184, 0, 92, 153, 0, 41, 42, 27, 182, 0, 100, 153, 0, 33, 28, 3, 42, 180, 0, 40, 27, 46, 4]
abbrev dktX5_element_0 : List UInt8 := dkwX5_element_0 ++ dktX5_element_1
theorem dksX5_element_0 : cX5_element.data.toList.drop 0 = dktX5_element_0 := by decide +kernel
theorem dksX5_element_1 : cX5_element.data.toList.drop 24 = dktX5_element_1 := dk_seg dksX5_element_0 24 rfl rfl
theorem dX5_element_0 : decode cX5_element 0 = .ok (.iload_n 1, 1) := dk_27 (dk_at dksX5_element_0 0 rfl rfl)
theorem dX5_element_1 : decode cX5_element 1 = .ok (.invokestatic 92, 3) := dk_184 0 92 (dk_at dksX5_element_0 1 rfl rfl)
theorem dX5_element_4 : decode cX5_element 4 = .ok (.ifCond .eq 41, 3) := dk_153 0 41 (dk_at dksX5_element_0 4 rfl rfl)
theorem dX5_element_7 : decode cX5_element 7 = .ok (.aload_n 0, 1) := dk_42 (dk_at dksX5_element_0 7 rfl rfl)
theorem dX5_element_8 : decode cX5_element 8 = .ok (.iload_n 1, 1) := dk_27 (dk_at dksX5_element_0 8 rfl rfl)
theorem dX5_element_9 : decode cX5_element 9 = .ok (.invokevirtual 100, 3) := dk_182 0 100 (dk_at dksX5_element_0 9 rfl rfl)
theorem dX5_element_12 : decode cX5_element 12 = .ok (.ifCond .eq 33, 3) := dk_153 0 33 (dk_at dksX5_element_0 12 rfl rfl)
theorem dX5_element_15 : decode cX5_element 15 = .ok (.iload_n 2, 1) := dk_28 (dk_at dksX5_element_0 15 rfl rfl)
theorem dX5_element_16 : decode cX5_element 16 = .ok (.iconst 0, 1) := dk_3 (dk_at dksX5_element_0 16 rfl rfl)
theorem dX5_element_17 : decode cX5_element 17 = .ok (.aload_n 0, 1) := dk_42 (dk_at dksX5_element_0 17 rfl rfl)
theorem dX5_element_18 : decode cX5_element 18 = .ok (.getfield 40, 3) := dk_180 0 40 (dk_at dksX5_element_0 18 rfl rfl)
theorem dX5_element_21 : decode cX5_element 21 = .ok (.iload_n 1, 1) := dk_27 (dk_at dksX5_element_0 21 rfl rfl)
theorem dX5_element_22 : decode cX5_element 22 = .ok (.iaload, 1) := dk_46 (dk_at dksX5_element_0 22 rfl rfl)
theorem dX5_element_23 : decode cX5_element 23 = .ok (.iconst 1, 1) := dk_4 (dk_at dksX5_element_0 23 rfl rfl)
theorem dX5_element_24 : decode cX5_element 24 = .ok (.isub, 1) := dk_100 (dk_at dksX5_element_1 0 rfl rfl)
theorem dX5_element_25 : decode cX5_element 25 = .ok (.invokestatic 85, 3) := dk_184 0 85 (dk_at dksX5_element_1 1 rfl rfl)
theorem dX5_element_28 : decode cX5_element 28 = .ok (.ifCond .eq 17, 3) := dk_153 0 17 (dk_at dksX5_element_1 4 rfl rfl)
theorem dX5_element_31 : decode cX5_element 31 = .ok (.aload_n 0, 1) := dk_42 (dk_at dksX5_element_1 7 rfl rfl)
theorem dX5_element_32 : decode cX5_element 32 = .ok (.getfield 43, 3) := dk_180 0 43 (dk_at dksX5_element_1 8 rfl rfl)
theorem dX5_element_35 : decode cX5_element 35 = .ok (.bipush 40, 2) := dk_16 40 (dk_at dksX5_element_1 11 rfl rfl)
theorem dX5_element_37 : decode cX5_element 37 = .ok (.iload_n 1, 1) := dk_27 (dk_at dksX5_element_1 13 rfl rfl)
theorem dX5_element_38 : decode cX5_element 38 = .ok (.imul, 1) := dk_104 (dk_at dksX5_element_1 14 rfl rfl)
theorem dX5_element_39 : decode cX5_element 39 = .ok (.iload_n 2, 1) := dk_28 (dk_at dksX5_element_1 15 rfl rfl)
theorem dX5_element_40 : decode cX5_element 40 = .ok (.iadd, 1) := dk_96 (dk_at dksX5_element_1 16 rfl rfl)
theorem dX5_element_41 : decode cX5_element 41 = .ok (.laload, 1) := dk_47 (dk_at dksX5_element_1 17 rfl rfl)
theorem dX5_element_42 : decode cX5_element 42 = .ok (.goto 4, 3) := dk_167 0 4 (dk_at dksX5_element_1 18 rfl rfl)
theorem dX5_element_45 : decode cX5_element 45 = .ok (.lconst 0, 1) := dk_9 (dk_at dksX5_element_1 21 rfl rfl)
theorem dX5_element_46 : decode cX5_element 46 = .ok (.lreturn, 1) := dk_173 (dk_at dksX5_element_1 22 rfl rfl)
abbrev cX5_holds : ByteArray := prog_17_method_18_code
def yX5_holds : MethodName := ⟨RX5, "holds", "(I)I"⟩
def dkwX5_holds_0 : List UInt8 := [27, 184, 0, 92, 153, 0, 12, 42, 180, 0, 37, 27, 46, 167, 0, 4, 2, 172]
abbrev dktX5_holds_0 : List UInt8 := dkwX5_holds_0 ++ []
theorem dksX5_holds_0 : cX5_holds.data.toList.drop 0 = dktX5_holds_0 := by decide +kernel
theorem dX5_holds_0 : decode cX5_holds 0 = .ok (.iload_n 1, 1) := dk_27 (dk_at dksX5_holds_0 0 rfl rfl)
theorem dX5_holds_1 : decode cX5_holds 1 = .ok (.invokestatic 92, 3) := dk_184 0 92 (dk_at dksX5_holds_0 1 rfl rfl)
theorem dX5_holds_4 : decode cX5_holds 4 = .ok (.ifCond .eq 12, 3) := dk_153 0 12 (dk_at dksX5_holds_0 4 rfl rfl)
theorem dX5_holds_7 : decode cX5_holds 7 = .ok (.aload_n 0, 1) := dk_42 (dk_at dksX5_holds_0 7 rfl rfl)
theorem dX5_holds_8 : decode cX5_holds 8 = .ok (.getfield 37, 3) := dk_180 0 37 (dk_at dksX5_holds_0 8 rfl rfl)
theorem dX5_holds_11 : decode cX5_holds 11 = .ok (.iload_n 1, 1) := dk_27 (dk_at dksX5_holds_0 11 rfl rfl)
theorem dX5_holds_12 : decode cX5_holds 12 = .ok (.iaload, 1) := dk_46 (dk_at dksX5_holds_0 12 rfl rfl)
theorem dX5_holds_13 : decode cX5_holds 13 = .ok (.goto 4, 3) := dk_167 0 4 (dk_at dksX5_holds_0 13 rfl rfl)
theorem dX5_holds_16 : decode cX5_holds 16 = .ok (.iconst (-1), 1) := dk_2 (dk_at dksX5_holds_0 16 rfl rfl)
theorem dX5_holds_17 : decode cX5_holds 17 = .ok (.ireturn, 1) := dk_172 (dk_at dksX5_holds_0 17 rfl rfl)
abbrev cX5_show : ByteArray := prog_17_method_19_code
def yX5_show : MethodName := ⟨RX5, "show", "(II)I"⟩
def dkwX5_show_2 : List UInt8 := [172]
abbrev dktX5_show_2 : List UInt8 := dkwX5_show_2 ++ []
def dkwX5_show_1 : List UInt8 := [182, 0, 96, 172, 42, 180, 0, 37, 27, 28, 2, 160, 0, 7, 2, 167, 0, 7, 16, 10, 28, 96, 79, 4]
abbrev dktX5_show_1 : List UInt8 := dkwX5_show_1 ++ dktX5_show_2
def dkwX5_show_0 : List UInt8 := [27, 184, 0, 92, 153, 0, 16, 28, 2, 159, 0, 18, 42, 28, 182, 0, 110, 154, 0, 10, 42, 16, 254]
abbrev dktX5_show_0 : List UInt8 := dkwX5_show_0 ++ dktX5_show_1
theorem dksX5_show_0 : cX5_show.data.toList.drop 0 = dktX5_show_0 := by decide +kernel
theorem dksX5_show_1 : cX5_show.data.toList.drop 23 = dktX5_show_1 := dk_seg dksX5_show_0 23 rfl rfl
theorem dksX5_show_2 : cX5_show.data.toList.drop 47 = dktX5_show_2 := dk_seg dksX5_show_1 24 rfl rfl
theorem dX5_show_0 : decode cX5_show 0 = .ok (.iload_n 1, 1) := dk_27 (dk_at dksX5_show_0 0 rfl rfl)
theorem dX5_show_1 : decode cX5_show 1 = .ok (.invokestatic 92, 3) := dk_184 0 92 (dk_at dksX5_show_0 1 rfl rfl)
theorem dX5_show_4 : decode cX5_show 4 = .ok (.ifCond .eq 16, 3) := dk_153 0 16 (dk_at dksX5_show_0 4 rfl rfl)
theorem dX5_show_7 : decode cX5_show 7 = .ok (.iload_n 2, 1) := dk_28 (dk_at dksX5_show_0 7 rfl rfl)
theorem dX5_show_8 : decode cX5_show 8 = .ok (.iconst (-1), 1) := dk_2 (dk_at dksX5_show_0 8 rfl rfl)
theorem dX5_show_9 : decode cX5_show 9 = .ok (.if_icmp .eq 18, 3) := dk_159 0 18 (dk_at dksX5_show_0 9 rfl rfl)
theorem dX5_show_12 : decode cX5_show 12 = .ok (.aload_n 0, 1) := dk_42 (dk_at dksX5_show_0 12 rfl rfl)
theorem dX5_show_13 : decode cX5_show 13 = .ok (.iload_n 2, 1) := dk_28 (dk_at dksX5_show_0 13 rfl rfl)
theorem dX5_show_14 : decode cX5_show 14 = .ok (.invokevirtual 110, 3) := dk_182 0 110 (dk_at dksX5_show_0 14 rfl rfl)
theorem dX5_show_17 : decode cX5_show 17 = .ok (.ifCond .ne 10, 3) := dk_154 0 10 (dk_at dksX5_show_0 17 rfl rfl)
theorem dX5_show_20 : decode cX5_show 20 = .ok (.aload_n 0, 1) := dk_42 (dk_at dksX5_show_0 20 rfl rfl)
theorem dX5_show_21 : decode cX5_show 21 = .ok (.bipush (-2), 2) := dk_16 254 (dk_at dksX5_show_0 21 rfl rfl)
theorem dX5_show_23 : decode cX5_show 23 = .ok (.invokevirtual 96, 3) := dk_182 0 96 (dk_at dksX5_show_1 0 rfl rfl)
theorem dX5_show_26 : decode cX5_show 26 = .ok (.ireturn, 1) := dk_172 (dk_at dksX5_show_1 3 rfl rfl)
theorem dX5_show_27 : decode cX5_show 27 = .ok (.aload_n 0, 1) := dk_42 (dk_at dksX5_show_1 4 rfl rfl)
theorem dX5_show_28 : decode cX5_show 28 = .ok (.getfield 37, 3) := dk_180 0 37 (dk_at dksX5_show_1 5 rfl rfl)
theorem dX5_show_31 : decode cX5_show 31 = .ok (.iload_n 1, 1) := dk_27 (dk_at dksX5_show_1 8 rfl rfl)
theorem dX5_show_32 : decode cX5_show 32 = .ok (.iload_n 2, 1) := dk_28 (dk_at dksX5_show_1 9 rfl rfl)
theorem dX5_show_33 : decode cX5_show 33 = .ok (.iconst (-1), 1) := dk_2 (dk_at dksX5_show_1 10 rfl rfl)
theorem dX5_show_34 : decode cX5_show 34 = .ok (.if_icmp .ne 7, 3) := dk_160 0 7 (dk_at dksX5_show_1 11 rfl rfl)
theorem dX5_show_37 : decode cX5_show 37 = .ok (.iconst (-1), 1) := dk_2 (dk_at dksX5_show_1 14 rfl rfl)
theorem dX5_show_38 : decode cX5_show 38 = .ok (.goto 7, 3) := dk_167 0 7 (dk_at dksX5_show_1 15 rfl rfl)
theorem dX5_show_41 : decode cX5_show 41 = .ok (.bipush 10, 2) := dk_16 10 (dk_at dksX5_show_1 18 rfl rfl)
theorem dX5_show_43 : decode cX5_show 43 = .ok (.iload_n 2, 1) := dk_28 (dk_at dksX5_show_1 20 rfl rfl)
theorem dX5_show_44 : decode cX5_show 44 = .ok (.iadd, 1) := dk_96 (dk_at dksX5_show_1 21 rfl rfl)
theorem dX5_show_45 : decode cX5_show 45 = .ok (.iastore, 1) := dk_79 (dk_at dksX5_show_1 22 rfl rfl)
theorem dX5_show_46 : decode cX5_show 46 = .ok (.iconst 1, 1) := dk_4 (dk_at dksX5_show_1 23 rfl rfl)
theorem dX5_show_47 : decode cX5_show 47 = .ok (.ireturn, 1) := dk_172 (dk_at dksX5_show_2 0 rfl rfl)
abbrev cX5_isLooker : ByteArray := prog_17_method_7_code
def yX5_isLooker : MethodName := ⟨RX5, "isLooker", "(I)Z"⟩
def dkwX5_isLooker_0 : List UInt8 := [27, 3, 42, 180, 0, 89, 4, 100, 184, 0, 85, 172]
abbrev dktX5_isLooker_0 : List UInt8 := dkwX5_isLooker_0 ++ []
theorem dksX5_isLooker_0 : cX5_isLooker.data.toList.drop 0 = dktX5_isLooker_0 := by decide +kernel
theorem dX5_isLooker_0 : decode cX5_isLooker 0 = .ok (.iload_n 1, 1) := dk_27 (dk_at dksX5_isLooker_0 0 rfl rfl)
theorem dX5_isLooker_1 : decode cX5_isLooker 1 = .ok (.iconst 0, 1) := dk_3 (dk_at dksX5_isLooker_0 1 rfl rfl)
theorem dX5_isLooker_2 : decode cX5_isLooker 2 = .ok (.aload_n 0, 1) := dk_42 (dk_at dksX5_isLooker_0 2 rfl rfl)
theorem dX5_isLooker_3 : decode cX5_isLooker 3 = .ok (.getfield 89, 3) := dk_180 0 89 (dk_at dksX5_isLooker_0 3 rfl rfl)
theorem dX5_isLooker_6 : decode cX5_isLooker 6 = .ok (.iconst 1, 1) := dk_4 (dk_at dksX5_isLooker_0 6 rfl rfl)
theorem dX5_isLooker_7 : decode cX5_isLooker 7 = .ok (.isub, 1) := dk_100 (dk_at dksX5_isLooker_0 7 rfl rfl)
theorem dX5_isLooker_8 : decode cX5_isLooker 8 = .ok (.invokestatic 85, 3) := dk_184 0 85 (dk_at dksX5_isLooker_0 8 rfl rfl)
theorem dX5_isLooker_11 : decode cX5_isLooker 11 = .ok (.ireturn, 1) := dk_172 (dk_at dksX5_isLooker_0 11 rfl rfl)
abbrev cX5_says : ByteArray := prog_17_method_21_code
def yX5_says : MethodName := ⟨RX5, "says", "(II)I"⟩
def dkwX5_says_4 : List UInt8 := [42, 4, 29, 120, 182, 0, 117, 42, 180, 0, 62, 29, 46, 172]
abbrev dktX5_says_4 : List UInt8 := dkwX5_says_4 ++ []
def dkwX5_says_3 : List UInt8 := [184, 0, 113, 154, 0, 10, 42, 16, 253, 182, 0, 96, 172, 28, 154, 0, 10, 42, 180, 0, 19, 29, 46, 172]
abbrev dktX5_says_3 : List UInt8 := dkwX5_says_3 ++ dktX5_says_4
def dkwX5_says_2 : List UInt8 := [16, 252, 182, 0, 96, 172, 42, 180, 0, 37, 27, 46, 16, 10, 100, 62, 42, 180, 0, 13, 29, 46, 28]
abbrev dktX5_says_2 : List UInt8 := dkwX5_says_2 ++ dktX5_says_3
def dkwX5_says_1 : List UInt8 := [27, 182, 0, 100, 153, 0, 10, 42, 16, 253, 182, 0, 96, 172, 42, 180, 0, 37, 27, 46, 156, 0, 10, 42]
abbrev dktX5_says_1 : List UInt8 := dkwX5_says_1 ++ dktX5_says_2
def dkwX5_says_0 : List UInt8 := [27, 184, 0, 92, 153, 0, 12, 28, 3, 8, 184, 0, 85, 154, 0, 10, 42, 16, 254, 182, 0, 96, 172, 42]
abbrev dktX5_says_0 : List UInt8 := dkwX5_says_0 ++ dktX5_says_1
theorem dksX5_says_0 : cX5_says.data.toList.drop 0 = dktX5_says_0 := by decide +kernel
theorem dksX5_says_1 : cX5_says.data.toList.drop 24 = dktX5_says_1 := dk_seg dksX5_says_0 24 rfl rfl
theorem dksX5_says_2 : cX5_says.data.toList.drop 48 = dktX5_says_2 := dk_seg dksX5_says_1 24 rfl rfl
theorem dksX5_says_3 : cX5_says.data.toList.drop 71 = dktX5_says_3 := dk_seg dksX5_says_2 23 rfl rfl
theorem dksX5_says_4 : cX5_says.data.toList.drop 95 = dktX5_says_4 := dk_seg dksX5_says_3 24 rfl rfl
theorem dX5_says_0 : decode cX5_says 0 = .ok (.iload_n 1, 1) := dk_27 (dk_at dksX5_says_0 0 rfl rfl)
theorem dX5_says_1 : decode cX5_says 1 = .ok (.invokestatic 92, 3) := dk_184 0 92 (dk_at dksX5_says_0 1 rfl rfl)
theorem dX5_says_4 : decode cX5_says 4 = .ok (.ifCond .eq 12, 3) := dk_153 0 12 (dk_at dksX5_says_0 4 rfl rfl)
theorem dX5_says_7 : decode cX5_says 7 = .ok (.iload_n 2, 1) := dk_28 (dk_at dksX5_says_0 7 rfl rfl)
theorem dX5_says_8 : decode cX5_says 8 = .ok (.iconst 0, 1) := dk_3 (dk_at dksX5_says_0 8 rfl rfl)
theorem dX5_says_9 : decode cX5_says 9 = .ok (.iconst 5, 1) := dk_8 (dk_at dksX5_says_0 9 rfl rfl)
theorem dX5_says_10 : decode cX5_says 10 = .ok (.invokestatic 85, 3) := dk_184 0 85 (dk_at dksX5_says_0 10 rfl rfl)
theorem dX5_says_13 : decode cX5_says 13 = .ok (.ifCond .ne 10, 3) := dk_154 0 10 (dk_at dksX5_says_0 13 rfl rfl)
theorem dX5_says_16 : decode cX5_says 16 = .ok (.aload_n 0, 1) := dk_42 (dk_at dksX5_says_0 16 rfl rfl)
theorem dX5_says_17 : decode cX5_says 17 = .ok (.bipush (-2), 2) := dk_16 254 (dk_at dksX5_says_0 17 rfl rfl)
theorem dX5_says_19 : decode cX5_says 19 = .ok (.invokevirtual 96, 3) := dk_182 0 96 (dk_at dksX5_says_0 19 rfl rfl)
theorem dX5_says_22 : decode cX5_says 22 = .ok (.ireturn, 1) := dk_172 (dk_at dksX5_says_0 22 rfl rfl)
theorem dX5_says_23 : decode cX5_says 23 = .ok (.aload_n 0, 1) := dk_42 (dk_at dksX5_says_0 23 rfl rfl)
theorem dX5_says_24 : decode cX5_says 24 = .ok (.iload_n 1, 1) := dk_27 (dk_at dksX5_says_1 0 rfl rfl)
theorem dX5_says_25 : decode cX5_says 25 = .ok (.invokevirtual 100, 3) := dk_182 0 100 (dk_at dksX5_says_1 1 rfl rfl)
theorem dX5_says_28 : decode cX5_says 28 = .ok (.ifCond .eq 10, 3) := dk_153 0 10 (dk_at dksX5_says_1 4 rfl rfl)
theorem dX5_says_31 : decode cX5_says 31 = .ok (.aload_n 0, 1) := dk_42 (dk_at dksX5_says_1 7 rfl rfl)
theorem dX5_says_32 : decode cX5_says 32 = .ok (.bipush (-3), 2) := dk_16 253 (dk_at dksX5_says_1 8 rfl rfl)
theorem dX5_says_34 : decode cX5_says 34 = .ok (.invokevirtual 96, 3) := dk_182 0 96 (dk_at dksX5_says_1 10 rfl rfl)
theorem dX5_says_37 : decode cX5_says 37 = .ok (.ireturn, 1) := dk_172 (dk_at dksX5_says_1 13 rfl rfl)
theorem dX5_says_38 : decode cX5_says 38 = .ok (.aload_n 0, 1) := dk_42 (dk_at dksX5_says_1 14 rfl rfl)
theorem dX5_says_39 : decode cX5_says 39 = .ok (.getfield 37, 3) := dk_180 0 37 (dk_at dksX5_says_1 15 rfl rfl)
theorem dX5_says_42 : decode cX5_says 42 = .ok (.iload_n 1, 1) := dk_27 (dk_at dksX5_says_1 18 rfl rfl)
theorem dX5_says_43 : decode cX5_says 43 = .ok (.iaload, 1) := dk_46 (dk_at dksX5_says_1 19 rfl rfl)
theorem dX5_says_44 : decode cX5_says 44 = .ok (.ifCond .ge 10, 3) := dk_156 0 10 (dk_at dksX5_says_1 20 rfl rfl)
theorem dX5_says_47 : decode cX5_says 47 = .ok (.aload_n 0, 1) := dk_42 (dk_at dksX5_says_1 23 rfl rfl)
theorem dX5_says_48 : decode cX5_says 48 = .ok (.bipush (-4), 2) := dk_16 252 (dk_at dksX5_says_2 0 rfl rfl)
theorem dX5_says_50 : decode cX5_says 50 = .ok (.invokevirtual 96, 3) := dk_182 0 96 (dk_at dksX5_says_2 2 rfl rfl)
theorem dX5_says_53 : decode cX5_says 53 = .ok (.ireturn, 1) := dk_172 (dk_at dksX5_says_2 5 rfl rfl)
theorem dX5_says_54 : decode cX5_says 54 = .ok (.aload_n 0, 1) := dk_42 (dk_at dksX5_says_2 6 rfl rfl)
theorem dX5_says_55 : decode cX5_says 55 = .ok (.getfield 37, 3) := dk_180 0 37 (dk_at dksX5_says_2 7 rfl rfl)
theorem dX5_says_58 : decode cX5_says 58 = .ok (.iload_n 1, 1) := dk_27 (dk_at dksX5_says_2 10 rfl rfl)
theorem dX5_says_59 : decode cX5_says 59 = .ok (.iaload, 1) := dk_46 (dk_at dksX5_says_2 11 rfl rfl)
theorem dX5_says_60 : decode cX5_says 60 = .ok (.bipush 10, 2) := dk_16 10 (dk_at dksX5_says_2 12 rfl rfl)
theorem dX5_says_62 : decode cX5_says 62 = .ok (.isub, 1) := dk_100 (dk_at dksX5_says_2 14 rfl rfl)
theorem dX5_says_63 : decode cX5_says 63 = .ok (.istore_n 3, 1) := dk_62 (dk_at dksX5_says_2 15 rfl rfl)
theorem dX5_says_64 : decode cX5_says 64 = .ok (.aload_n 0, 1) := dk_42 (dk_at dksX5_says_2 16 rfl rfl)
theorem dX5_says_65 : decode cX5_says 65 = .ok (.getfield 13, 3) := dk_180 0 13 (dk_at dksX5_says_2 17 rfl rfl)
theorem dX5_says_68 : decode cX5_says 68 = .ok (.iload_n 3, 1) := dk_29 (dk_at dksX5_says_2 20 rfl rfl)
theorem dX5_says_69 : decode cX5_says 69 = .ok (.iaload, 1) := dk_46 (dk_at dksX5_says_2 21 rfl rfl)
theorem dX5_says_70 : decode cX5_says 70 = .ok (.iload_n 2, 1) := dk_28 (dk_at dksX5_says_2 22 rfl rfl)
theorem dX5_says_71 : decode cX5_says 71 = .ok (.invokestatic 113, 3) := dk_184 0 113 (dk_at dksX5_says_3 0 rfl rfl)
theorem dX5_says_74 : decode cX5_says 74 = .ok (.ifCond .ne 10, 3) := dk_154 0 10 (dk_at dksX5_says_3 3 rfl rfl)
theorem dX5_says_77 : decode cX5_says 77 = .ok (.aload_n 0, 1) := dk_42 (dk_at dksX5_says_3 6 rfl rfl)
theorem dX5_says_78 : decode cX5_says 78 = .ok (.bipush (-3), 2) := dk_16 253 (dk_at dksX5_says_3 7 rfl rfl)
theorem dX5_says_80 : decode cX5_says 80 = .ok (.invokevirtual 96, 3) := dk_182 0 96 (dk_at dksX5_says_3 9 rfl rfl)
theorem dX5_says_83 : decode cX5_says 83 = .ok (.ireturn, 1) := dk_172 (dk_at dksX5_says_3 12 rfl rfl)
theorem dX5_says_84 : decode cX5_says 84 = .ok (.iload_n 2, 1) := dk_28 (dk_at dksX5_says_3 13 rfl rfl)
theorem dX5_says_85 : decode cX5_says 85 = .ok (.ifCond .ne 10, 3) := dk_154 0 10 (dk_at dksX5_says_3 14 rfl rfl)
theorem dX5_says_88 : decode cX5_says 88 = .ok (.aload_n 0, 1) := dk_42 (dk_at dksX5_says_3 17 rfl rfl)
theorem dX5_says_89 : decode cX5_says 89 = .ok (.getfield 19, 3) := dk_180 0 19 (dk_at dksX5_says_3 18 rfl rfl)
theorem dX5_says_92 : decode cX5_says 92 = .ok (.iload_n 3, 1) := dk_29 (dk_at dksX5_says_3 21 rfl rfl)
theorem dX5_says_93 : decode cX5_says 93 = .ok (.iaload, 1) := dk_46 (dk_at dksX5_says_3 22 rfl rfl)
theorem dX5_says_94 : decode cX5_says 94 = .ok (.ireturn, 1) := dk_172 (dk_at dksX5_says_3 23 rfl rfl)
theorem dX5_says_95 : decode cX5_says 95 = .ok (.aload_n 0, 1) := dk_42 (dk_at dksX5_says_4 0 rfl rfl)
theorem dX5_says_96 : decode cX5_says 96 = .ok (.iconst 1, 1) := dk_4 (dk_at dksX5_says_4 1 rfl rfl)
theorem dX5_says_97 : decode cX5_says 97 = .ok (.iload_n 3, 1) := dk_29 (dk_at dksX5_says_4 2 rfl rfl)
theorem dX5_says_98 : decode cX5_says 98 = .ok (.ishl, 1) := dk_120 (dk_at dksX5_says_4 3 rfl rfl)
theorem dX5_says_99 : decode cX5_says 99 = .ok (.invokevirtual 117, 3) := dk_182 0 117 (dk_at dksX5_says_4 4 rfl rfl)
theorem dX5_says_102 : decode cX5_says 102 = .ok (.aload_n 0, 1) := dk_42 (dk_at dksX5_says_4 7 rfl rfl)
theorem dX5_says_103 : decode cX5_says 103 = .ok (.getfield 62, 3) := dk_180 0 62 (dk_at dksX5_says_4 8 rfl rfl)
theorem dX5_says_106 : decode cX5_says 106 = .ok (.iload_n 3, 1) := dk_29 (dk_at dksX5_says_4 11 rfl rfl)
theorem dX5_says_107 : decode cX5_says 107 = .ok (.iaload, 1) := dk_46 (dk_at dksX5_says_4 12 rfl rfl)
theorem dX5_says_108 : decode cX5_says 108 = .ok (.ireturn, 1) := dk_172 (dk_at dksX5_says_4 13 rfl rfl)
abbrev cX5_isUnder : ByteArray := prog_17_method_20_code
def yX5_isUnder : MethodName := ⟨RX5, "isUnder", "(II)Z"⟩
def dkwX5_isUnder_1 : List UInt8 := [27, 5, 160, 0, 7, 4, 167, 0, 4, 3, 172]
abbrev dktX5_isUnder_1 : List UInt8 := dkwX5_isUnder_1 ++ []
def dkwX5_isUnder_0 : List UInt8 := [27, 153, 0, 28, 26, 27, 159, 0, 23, 26, 6, 160, 0, 8, 27, 4, 159, 0, 13, 26, 7, 160, 0, 12]
abbrev dktX5_isUnder_0 : List UInt8 := dkwX5_isUnder_0 ++ dktX5_isUnder_1
theorem dksX5_isUnder_0 : cX5_isUnder.data.toList.drop 0 = dktX5_isUnder_0 := by decide +kernel
theorem dksX5_isUnder_1 : cX5_isUnder.data.toList.drop 24 = dktX5_isUnder_1 := dk_seg dksX5_isUnder_0 24 rfl rfl
theorem dX5_isUnder_0 : decode cX5_isUnder 0 = .ok (.iload_n 1, 1) := dk_27 (dk_at dksX5_isUnder_0 0 rfl rfl)
theorem dX5_isUnder_1 : decode cX5_isUnder 1 = .ok (.ifCond .eq 28, 3) := dk_153 0 28 (dk_at dksX5_isUnder_0 1 rfl rfl)
theorem dX5_isUnder_4 : decode cX5_isUnder 4 = .ok (.iload_n 0, 1) := dk_26 (dk_at dksX5_isUnder_0 4 rfl rfl)
theorem dX5_isUnder_5 : decode cX5_isUnder 5 = .ok (.iload_n 1, 1) := dk_27 (dk_at dksX5_isUnder_0 5 rfl rfl)
theorem dX5_isUnder_6 : decode cX5_isUnder 6 = .ok (.if_icmp .eq 23, 3) := dk_159 0 23 (dk_at dksX5_isUnder_0 6 rfl rfl)
theorem dX5_isUnder_9 : decode cX5_isUnder 9 = .ok (.iload_n 0, 1) := dk_26 (dk_at dksX5_isUnder_0 9 rfl rfl)
theorem dX5_isUnder_10 : decode cX5_isUnder 10 = .ok (.iconst 3, 1) := dk_6 (dk_at dksX5_isUnder_0 10 rfl rfl)
theorem dX5_isUnder_11 : decode cX5_isUnder 11 = .ok (.if_icmp .ne 8, 3) := dk_160 0 8 (dk_at dksX5_isUnder_0 11 rfl rfl)
theorem dX5_isUnder_14 : decode cX5_isUnder 14 = .ok (.iload_n 1, 1) := dk_27 (dk_at dksX5_isUnder_0 14 rfl rfl)
theorem dX5_isUnder_15 : decode cX5_isUnder 15 = .ok (.iconst 1, 1) := dk_4 (dk_at dksX5_isUnder_0 15 rfl rfl)
theorem dX5_isUnder_16 : decode cX5_isUnder 16 = .ok (.if_icmp .eq 13, 3) := dk_159 0 13 (dk_at dksX5_isUnder_0 16 rfl rfl)
theorem dX5_isUnder_19 : decode cX5_isUnder 19 = .ok (.iload_n 0, 1) := dk_26 (dk_at dksX5_isUnder_0 19 rfl rfl)
theorem dX5_isUnder_20 : decode cX5_isUnder 20 = .ok (.iconst 4, 1) := dk_7 (dk_at dksX5_isUnder_0 20 rfl rfl)
theorem dX5_isUnder_21 : decode cX5_isUnder 21 = .ok (.if_icmp .ne 12, 3) := dk_160 0 12 (dk_at dksX5_isUnder_0 21 rfl rfl)
theorem dX5_isUnder_24 : decode cX5_isUnder 24 = .ok (.iload_n 1, 1) := dk_27 (dk_at dksX5_isUnder_1 0 rfl rfl)
theorem dX5_isUnder_25 : decode cX5_isUnder 25 = .ok (.iconst 2, 1) := dk_5 (dk_at dksX5_isUnder_1 1 rfl rfl)
theorem dX5_isUnder_26 : decode cX5_isUnder 26 = .ok (.if_icmp .ne 7, 3) := dk_160 0 7 (dk_at dksX5_isUnder_1 2 rfl rfl)
theorem dX5_isUnder_29 : decode cX5_isUnder 29 = .ok (.iconst 1, 1) := dk_4 (dk_at dksX5_isUnder_1 5 rfl rfl)
theorem dX5_isUnder_30 : decode cX5_isUnder 30 = .ok (.goto 4, 3) := dk_167 0 4 (dk_at dksX5_isUnder_1 6 rfl rfl)
theorem dX5_isUnder_33 : decode cX5_isUnder 33 = .ok (.iconst 0, 1) := dk_3 (dk_at dksX5_isUnder_1 9 rfl rfl)
theorem dX5_isUnder_34 : decode cX5_isUnder 34 = .ok (.ireturn, 1) := dk_172 (dk_at dksX5_isUnder_1 10 rfl rfl)
abbrev cX5_runs : ByteArray := prog_17_method_48_code
def yX5_runs : MethodName := ⟨RX5, "runs", "(I)V"⟩
def dkwX5_runs_1 : List UInt8 := [182, 0, 228, 132, 2, 1, 167, 255, 235, 177]
abbrev dktX5_runs_1 : List UInt8 := dkwX5_runs_1 ++ []
def dkwX5_runs_0 : List UInt8 := [42, 27, 182, 0, 225, 3, 61, 28, 42, 180, 0, 219, 162, 0, 19, 42, 42, 180, 0, 59, 28, 46]
abbrev dktX5_runs_0 : List UInt8 := dkwX5_runs_0 ++ dktX5_runs_1
theorem dksX5_runs_0 : cX5_runs.data.toList.drop 0 = dktX5_runs_0 := by decide +kernel
theorem dksX5_runs_1 : cX5_runs.data.toList.drop 22 = dktX5_runs_1 := dk_seg dksX5_runs_0 22 rfl rfl
theorem dX5_runs_0 : decode cX5_runs 0 = .ok (.aload_n 0, 1) := dk_42 (dk_at dksX5_runs_0 0 rfl rfl)
theorem dX5_runs_1 : decode cX5_runs 1 = .ok (.iload_n 1, 1) := dk_27 (dk_at dksX5_runs_0 1 rfl rfl)
theorem dX5_runs_2 : decode cX5_runs 2 = .ok (.invokevirtual 225, 3) := dk_182 0 225 (dk_at dksX5_runs_0 2 rfl rfl)
theorem dX5_runs_5 : decode cX5_runs 5 = .ok (.iconst 0, 1) := dk_3 (dk_at dksX5_runs_0 5 rfl rfl)
theorem dX5_runs_6 : decode cX5_runs 6 = .ok (.istore_n 2, 1) := dk_61 (dk_at dksX5_runs_0 6 rfl rfl)
theorem dX5_runs_7 : decode cX5_runs 7 = .ok (.iload_n 2, 1) := dk_28 (dk_at dksX5_runs_0 7 rfl rfl)
theorem dX5_runs_8 : decode cX5_runs 8 = .ok (.aload_n 0, 1) := dk_42 (dk_at dksX5_runs_0 8 rfl rfl)
theorem dX5_runs_9 : decode cX5_runs 9 = .ok (.getfield 219, 3) := dk_180 0 219 (dk_at dksX5_runs_0 9 rfl rfl)
theorem dX5_runs_12 : decode cX5_runs 12 = .ok (.if_icmp .ge 19, 3) := dk_162 0 19 (dk_at dksX5_runs_0 12 rfl rfl)
theorem dX5_runs_15 : decode cX5_runs 15 = .ok (.aload_n 0, 1) := dk_42 (dk_at dksX5_runs_0 15 rfl rfl)
theorem dX5_runs_16 : decode cX5_runs 16 = .ok (.aload_n 0, 1) := dk_42 (dk_at dksX5_runs_0 16 rfl rfl)
theorem dX5_runs_17 : decode cX5_runs 17 = .ok (.getfield 59, 3) := dk_180 0 59 (dk_at dksX5_runs_0 17 rfl rfl)
theorem dX5_runs_20 : decode cX5_runs 20 = .ok (.iload_n 2, 1) := dk_28 (dk_at dksX5_runs_0 20 rfl rfl)
theorem dX5_runs_21 : decode cX5_runs 21 = .ok (.iaload, 1) := dk_46 (dk_at dksX5_runs_0 21 rfl rfl)
theorem dX5_runs_22 : decode cX5_runs 22 = .ok (.invokevirtual 228, 3) := dk_182 0 228 (dk_at dksX5_runs_1 0 rfl rfl)
theorem dX5_runs_25 : decode cX5_runs 25 = .ok (.iinc 2 1, 3) := dk_132 2 1 (dk_at dksX5_runs_1 3 rfl rfl)
theorem dX5_runs_28 : decode cX5_runs 28 = .ok (.goto (-21), 3) := dk_167 255 235 (dk_at dksX5_runs_1 6 rfl rfl)
theorem dX5_runs_31 : decode cX5_runs 31 = .ok (.return_, 1) := dk_177 (dk_at dksX5_runs_1 9 rfl rfl)
abbrev cX5_begins : ByteArray := prog_17_method_47_code
def yX5_begins : MethodName := ⟨RX5, "begins", "(I)V"⟩
def dkwX5_begins_2 : List UInt8 := [79, 132, 2, 1, 167, 255, 233, 42, 27, 182, 0, 222, 177]
abbrev dktX5_begins_2 : List UInt8 := dkwX5_begins_2 ++ []
def dkwX5_begins_1 : List UInt8 := [167, 255, 235, 3, 61, 28, 16, 8, 162, 0, 23, 42, 180, 0, 62, 28, 3, 79, 42, 180, 0, 65, 28, 2]
abbrev dktX5_begins_1 : List UInt8 := dkwX5_begins_1 ++ dktX5_begins_2
def dkwX5_begins_0 : List UInt8 := [3, 61, 28, 16, 12, 162, 0, 21, 42, 180, 0, 56, 28, 42, 180, 0, 9, 28, 46, 79, 132, 2, 1]
abbrev dktX5_begins_0 : List UInt8 := dkwX5_begins_0 ++ dktX5_begins_1
theorem dksX5_begins_0 : cX5_begins.data.toList.drop 0 = dktX5_begins_0 := by decide +kernel
theorem dksX5_begins_1 : cX5_begins.data.toList.drop 23 = dktX5_begins_1 := dk_seg dksX5_begins_0 23 rfl rfl
theorem dksX5_begins_2 : cX5_begins.data.toList.drop 47 = dktX5_begins_2 := dk_seg dksX5_begins_1 24 rfl rfl
theorem dX5_begins_0 : decode cX5_begins 0 = .ok (.iconst 0, 1) := dk_3 (dk_at dksX5_begins_0 0 rfl rfl)
theorem dX5_begins_1 : decode cX5_begins 1 = .ok (.istore_n 2, 1) := dk_61 (dk_at dksX5_begins_0 1 rfl rfl)
theorem dX5_begins_2 : decode cX5_begins 2 = .ok (.iload_n 2, 1) := dk_28 (dk_at dksX5_begins_0 2 rfl rfl)
theorem dX5_begins_3 : decode cX5_begins 3 = .ok (.bipush 12, 2) := dk_16 12 (dk_at dksX5_begins_0 3 rfl rfl)
theorem dX5_begins_5 : decode cX5_begins 5 = .ok (.if_icmp .ge 21, 3) := dk_162 0 21 (dk_at dksX5_begins_0 5 rfl rfl)
theorem dX5_begins_8 : decode cX5_begins 8 = .ok (.aload_n 0, 1) := dk_42 (dk_at dksX5_begins_0 8 rfl rfl)
theorem dX5_begins_9 : decode cX5_begins 9 = .ok (.getfield 56, 3) := dk_180 0 56 (dk_at dksX5_begins_0 9 rfl rfl)
theorem dX5_begins_12 : decode cX5_begins 12 = .ok (.iload_n 2, 1) := dk_28 (dk_at dksX5_begins_0 12 rfl rfl)
theorem dX5_begins_13 : decode cX5_begins 13 = .ok (.aload_n 0, 1) := dk_42 (dk_at dksX5_begins_0 13 rfl rfl)
theorem dX5_begins_14 : decode cX5_begins 14 = .ok (.getfield 9, 3) := dk_180 0 9 (dk_at dksX5_begins_0 14 rfl rfl)
theorem dX5_begins_17 : decode cX5_begins 17 = .ok (.iload_n 2, 1) := dk_28 (dk_at dksX5_begins_0 17 rfl rfl)
theorem dX5_begins_18 : decode cX5_begins 18 = .ok (.iaload, 1) := dk_46 (dk_at dksX5_begins_0 18 rfl rfl)
theorem dX5_begins_19 : decode cX5_begins 19 = .ok (.iastore, 1) := dk_79 (dk_at dksX5_begins_0 19 rfl rfl)
theorem dX5_begins_20 : decode cX5_begins 20 = .ok (.iinc 2 1, 3) := dk_132 2 1 (dk_at dksX5_begins_0 20 rfl rfl)
theorem dX5_begins_23 : decode cX5_begins 23 = .ok (.goto (-21), 3) := dk_167 255 235 (dk_at dksX5_begins_1 0 rfl rfl)
theorem dX5_begins_26 : decode cX5_begins 26 = .ok (.iconst 0, 1) := dk_3 (dk_at dksX5_begins_1 3 rfl rfl)
theorem dX5_begins_27 : decode cX5_begins 27 = .ok (.istore_n 2, 1) := dk_61 (dk_at dksX5_begins_1 4 rfl rfl)
theorem dX5_begins_28 : decode cX5_begins 28 = .ok (.iload_n 2, 1) := dk_28 (dk_at dksX5_begins_1 5 rfl rfl)
theorem dX5_begins_29 : decode cX5_begins 29 = .ok (.bipush 8, 2) := dk_16 8 (dk_at dksX5_begins_1 6 rfl rfl)
theorem dX5_begins_31 : decode cX5_begins 31 = .ok (.if_icmp .ge 23, 3) := dk_162 0 23 (dk_at dksX5_begins_1 8 rfl rfl)
theorem dX5_begins_34 : decode cX5_begins 34 = .ok (.aload_n 0, 1) := dk_42 (dk_at dksX5_begins_1 11 rfl rfl)
theorem dX5_begins_35 : decode cX5_begins 35 = .ok (.getfield 62, 3) := dk_180 0 62 (dk_at dksX5_begins_1 12 rfl rfl)
theorem dX5_begins_38 : decode cX5_begins 38 = .ok (.iload_n 2, 1) := dk_28 (dk_at dksX5_begins_1 15 rfl rfl)
theorem dX5_begins_39 : decode cX5_begins 39 = .ok (.iconst 0, 1) := dk_3 (dk_at dksX5_begins_1 16 rfl rfl)
theorem dX5_begins_40 : decode cX5_begins 40 = .ok (.iastore, 1) := dk_79 (dk_at dksX5_begins_1 17 rfl rfl)
theorem dX5_begins_41 : decode cX5_begins 41 = .ok (.aload_n 0, 1) := dk_42 (dk_at dksX5_begins_1 18 rfl rfl)
theorem dX5_begins_42 : decode cX5_begins 42 = .ok (.getfield 65, 3) := dk_180 0 65 (dk_at dksX5_begins_1 19 rfl rfl)
theorem dX5_begins_45 : decode cX5_begins 45 = .ok (.iload_n 2, 1) := dk_28 (dk_at dksX5_begins_1 22 rfl rfl)
theorem dX5_begins_46 : decode cX5_begins 46 = .ok (.iconst (-1), 1) := dk_2 (dk_at dksX5_begins_1 23 rfl rfl)
theorem dX5_begins_47 : decode cX5_begins 47 = .ok (.iastore, 1) := dk_79 (dk_at dksX5_begins_2 0 rfl rfl)
theorem dX5_begins_48 : decode cX5_begins 48 = .ok (.iinc 2 1, 3) := dk_132 2 1 (dk_at dksX5_begins_2 1 rfl rfl)
theorem dX5_begins_51 : decode cX5_begins 51 = .ok (.goto (-23), 3) := dk_167 255 233 (dk_at dksX5_begins_2 4 rfl rfl)
theorem dX5_begins_54 : decode cX5_begins 54 = .ok (.aload_n 0, 1) := dk_42 (dk_at dksX5_begins_2 7 rfl rfl)
theorem dX5_begins_55 : decode cX5_begins 55 = .ok (.iload_n 1, 1) := dk_27 (dk_at dksX5_begins_2 8 rfl rfl)
theorem dX5_begins_56 : decode cX5_begins 56 = .ok (.invokevirtual 222, 3) := dk_182 0 222 (dk_at dksX5_begins_2 9 rfl rfl)
theorem dX5_begins_59 : decode cX5_begins 59 = .ok (.return_, 1) := dk_177 (dk_at dksX5_begins_2 12 rfl rfl)
abbrev cX5_orders : ByteArray := prog_17_method_46_code
def yX5_orders : MethodName := ⟨RX5, "orders", "(I)V"⟩
def dkwX5_orders_4 : List UInt8 := [167, 255, 169, 177]
abbrev dktX5_orders_4 : List UInt8 := dkwX5_orders_4 ++ []
def dkwX5_orders_3 : List UInt8 := [180, 0, 59, 29, 4, 100, 46, 79, 132, 3, 255, 167, 255, 213, 42, 180, 0, 59, 29, 28, 79, 132, 2, 1]
abbrev dktX5_orders_3 : List UInt8 := dkwX5_orders_3 ++ dktX5_orders_4
def dkwX5_orders_2 : List UInt8 := [180, 0, 59, 29, 4, 100, 46, 46, 42, 180, 0, 19, 28, 46, 164, 0, 23, 42, 180, 0, 59, 29, 42]
abbrev dktX5_orders_2 : List UInt8 := dkwX5_orders_2 ++ dktX5_orders_3
def dkwX5_orders_1 : List UInt8 := [167, 0, 68, 42, 89, 180, 0, 219, 90, 4, 96, 181, 0, 219, 62, 29, 158, 0, 45, 42, 180, 0, 19, 42]
abbrev dktX5_orders_1 : List UInt8 := dkwX5_orders_1 ++ dktX5_orders_2
def dkwX5_orders_0 : List UInt8 := [42, 3, 181, 0, 219, 3, 61, 28, 42, 180, 0, 89, 162, 0, 85, 27, 28, 184, 0, 194, 154, 0, 6]
abbrev dktX5_orders_0 : List UInt8 := dkwX5_orders_0 ++ dktX5_orders_1
theorem dksX5_orders_0 : cX5_orders.data.toList.drop 0 = dktX5_orders_0 := by decide +kernel
theorem dksX5_orders_1 : cX5_orders.data.toList.drop 23 = dktX5_orders_1 := dk_seg dksX5_orders_0 23 rfl rfl
theorem dksX5_orders_2 : cX5_orders.data.toList.drop 47 = dktX5_orders_2 := dk_seg dksX5_orders_1 24 rfl rfl
theorem dksX5_orders_3 : cX5_orders.data.toList.drop 70 = dktX5_orders_3 := dk_seg dksX5_orders_2 23 rfl rfl
theorem dksX5_orders_4 : cX5_orders.data.toList.drop 94 = dktX5_orders_4 := dk_seg dksX5_orders_3 24 rfl rfl
theorem dX5_orders_0 : decode cX5_orders 0 = .ok (.aload_n 0, 1) := dk_42 (dk_at dksX5_orders_0 0 rfl rfl)
theorem dX5_orders_1 : decode cX5_orders 1 = .ok (.iconst 0, 1) := dk_3 (dk_at dksX5_orders_0 1 rfl rfl)
theorem dX5_orders_2 : decode cX5_orders 2 = .ok (.putfield 219, 3) := dk_181 0 219 (dk_at dksX5_orders_0 2 rfl rfl)
theorem dX5_orders_5 : decode cX5_orders 5 = .ok (.iconst 0, 1) := dk_3 (dk_at dksX5_orders_0 5 rfl rfl)
theorem dX5_orders_6 : decode cX5_orders 6 = .ok (.istore_n 2, 1) := dk_61 (dk_at dksX5_orders_0 6 rfl rfl)
theorem dX5_orders_7 : decode cX5_orders 7 = .ok (.iload_n 2, 1) := dk_28 (dk_at dksX5_orders_0 7 rfl rfl)
theorem dX5_orders_8 : decode cX5_orders 8 = .ok (.aload_n 0, 1) := dk_42 (dk_at dksX5_orders_0 8 rfl rfl)
theorem dX5_orders_9 : decode cX5_orders 9 = .ok (.getfield 89, 3) := dk_180 0 89 (dk_at dksX5_orders_0 9 rfl rfl)
theorem dX5_orders_12 : decode cX5_orders 12 = .ok (.if_icmp .ge 85, 3) := dk_162 0 85 (dk_at dksX5_orders_0 12 rfl rfl)
theorem dX5_orders_15 : decode cX5_orders 15 = .ok (.iload_n 1, 1) := dk_27 (dk_at dksX5_orders_0 15 rfl rfl)
theorem dX5_orders_16 : decode cX5_orders 16 = .ok (.iload_n 2, 1) := dk_28 (dk_at dksX5_orders_0 16 rfl rfl)
theorem dX5_orders_17 : decode cX5_orders 17 = .ok (.invokestatic 194, 3) := dk_184 0 194 (dk_at dksX5_orders_0 17 rfl rfl)
theorem dX5_orders_20 : decode cX5_orders 20 = .ok (.ifCond .ne 6, 3) := dk_154 0 6 (dk_at dksX5_orders_0 20 rfl rfl)
theorem dX5_orders_23 : decode cX5_orders 23 = .ok (.goto 68, 3) := dk_167 0 68 (dk_at dksX5_orders_1 0 rfl rfl)
theorem dX5_orders_26 : decode cX5_orders 26 = .ok (.aload_n 0, 1) := dk_42 (dk_at dksX5_orders_1 3 rfl rfl)
theorem dX5_orders_27 : decode cX5_orders 27 = .ok (.dup, 1) := dk_89 (dk_at dksX5_orders_1 4 rfl rfl)
theorem dX5_orders_28 : decode cX5_orders 28 = .ok (.getfield 219, 3) := dk_180 0 219 (dk_at dksX5_orders_1 5 rfl rfl)
theorem dX5_orders_31 : decode cX5_orders 31 = .ok (.dup_x1, 1) := dk_90 (dk_at dksX5_orders_1 8 rfl rfl)
theorem dX5_orders_32 : decode cX5_orders 32 = .ok (.iconst 1, 1) := dk_4 (dk_at dksX5_orders_1 9 rfl rfl)
theorem dX5_orders_33 : decode cX5_orders 33 = .ok (.iadd, 1) := dk_96 (dk_at dksX5_orders_1 10 rfl rfl)
theorem dX5_orders_34 : decode cX5_orders 34 = .ok (.putfield 219, 3) := dk_181 0 219 (dk_at dksX5_orders_1 11 rfl rfl)
theorem dX5_orders_37 : decode cX5_orders 37 = .ok (.istore_n 3, 1) := dk_62 (dk_at dksX5_orders_1 14 rfl rfl)
theorem dX5_orders_38 : decode cX5_orders 38 = .ok (.iload_n 3, 1) := dk_29 (dk_at dksX5_orders_1 15 rfl rfl)
theorem dX5_orders_39 : decode cX5_orders 39 = .ok (.ifCond .le 45, 3) := dk_158 0 45 (dk_at dksX5_orders_1 16 rfl rfl)
theorem dX5_orders_42 : decode cX5_orders 42 = .ok (.aload_n 0, 1) := dk_42 (dk_at dksX5_orders_1 19 rfl rfl)
theorem dX5_orders_43 : decode cX5_orders 43 = .ok (.getfield 19, 3) := dk_180 0 19 (dk_at dksX5_orders_1 20 rfl rfl)
theorem dX5_orders_46 : decode cX5_orders 46 = .ok (.aload_n 0, 1) := dk_42 (dk_at dksX5_orders_1 23 rfl rfl)
theorem dX5_orders_47 : decode cX5_orders 47 = .ok (.getfield 59, 3) := dk_180 0 59 (dk_at dksX5_orders_2 0 rfl rfl)
theorem dX5_orders_50 : decode cX5_orders 50 = .ok (.iload_n 3, 1) := dk_29 (dk_at dksX5_orders_2 3 rfl rfl)
theorem dX5_orders_51 : decode cX5_orders 51 = .ok (.iconst 1, 1) := dk_4 (dk_at dksX5_orders_2 4 rfl rfl)
theorem dX5_orders_52 : decode cX5_orders 52 = .ok (.isub, 1) := dk_100 (dk_at dksX5_orders_2 5 rfl rfl)
theorem dX5_orders_53 : decode cX5_orders 53 = .ok (.iaload, 1) := dk_46 (dk_at dksX5_orders_2 6 rfl rfl)
theorem dX5_orders_54 : decode cX5_orders 54 = .ok (.iaload, 1) := dk_46 (dk_at dksX5_orders_2 7 rfl rfl)
theorem dX5_orders_55 : decode cX5_orders 55 = .ok (.aload_n 0, 1) := dk_42 (dk_at dksX5_orders_2 8 rfl rfl)
theorem dX5_orders_56 : decode cX5_orders 56 = .ok (.getfield 19, 3) := dk_180 0 19 (dk_at dksX5_orders_2 9 rfl rfl)
theorem dX5_orders_59 : decode cX5_orders 59 = .ok (.iload_n 2, 1) := dk_28 (dk_at dksX5_orders_2 12 rfl rfl)
theorem dX5_orders_60 : decode cX5_orders 60 = .ok (.iaload, 1) := dk_46 (dk_at dksX5_orders_2 13 rfl rfl)
theorem dX5_orders_61 : decode cX5_orders 61 = .ok (.if_icmp .le 23, 3) := dk_164 0 23 (dk_at dksX5_orders_2 14 rfl rfl)
theorem dX5_orders_64 : decode cX5_orders 64 = .ok (.aload_n 0, 1) := dk_42 (dk_at dksX5_orders_2 17 rfl rfl)
theorem dX5_orders_65 : decode cX5_orders 65 = .ok (.getfield 59, 3) := dk_180 0 59 (dk_at dksX5_orders_2 18 rfl rfl)
theorem dX5_orders_68 : decode cX5_orders 68 = .ok (.iload_n 3, 1) := dk_29 (dk_at dksX5_orders_2 21 rfl rfl)
theorem dX5_orders_69 : decode cX5_orders 69 = .ok (.aload_n 0, 1) := dk_42 (dk_at dksX5_orders_2 22 rfl rfl)
theorem dX5_orders_70 : decode cX5_orders 70 = .ok (.getfield 59, 3) := dk_180 0 59 (dk_at dksX5_orders_3 0 rfl rfl)
theorem dX5_orders_73 : decode cX5_orders 73 = .ok (.iload_n 3, 1) := dk_29 (dk_at dksX5_orders_3 3 rfl rfl)
theorem dX5_orders_74 : decode cX5_orders 74 = .ok (.iconst 1, 1) := dk_4 (dk_at dksX5_orders_3 4 rfl rfl)
theorem dX5_orders_75 : decode cX5_orders 75 = .ok (.isub, 1) := dk_100 (dk_at dksX5_orders_3 5 rfl rfl)
theorem dX5_orders_76 : decode cX5_orders 76 = .ok (.iaload, 1) := dk_46 (dk_at dksX5_orders_3 6 rfl rfl)
theorem dX5_orders_77 : decode cX5_orders 77 = .ok (.iastore, 1) := dk_79 (dk_at dksX5_orders_3 7 rfl rfl)
theorem dX5_orders_78 : decode cX5_orders 78 = .ok (.iinc 3 (-1), 3) := dk_132 3 255 (dk_at dksX5_orders_3 8 rfl rfl)
theorem dX5_orders_81 : decode cX5_orders 81 = .ok (.goto (-43), 3) := dk_167 255 213 (dk_at dksX5_orders_3 11 rfl rfl)
theorem dX5_orders_84 : decode cX5_orders 84 = .ok (.aload_n 0, 1) := dk_42 (dk_at dksX5_orders_3 14 rfl rfl)
theorem dX5_orders_85 : decode cX5_orders 85 = .ok (.getfield 59, 3) := dk_180 0 59 (dk_at dksX5_orders_3 15 rfl rfl)
theorem dX5_orders_88 : decode cX5_orders 88 = .ok (.iload_n 3, 1) := dk_29 (dk_at dksX5_orders_3 18 rfl rfl)
theorem dX5_orders_89 : decode cX5_orders 89 = .ok (.iload_n 2, 1) := dk_28 (dk_at dksX5_orders_3 19 rfl rfl)
theorem dX5_orders_90 : decode cX5_orders 90 = .ok (.iastore, 1) := dk_79 (dk_at dksX5_orders_3 20 rfl rfl)
theorem dX5_orders_91 : decode cX5_orders 91 = .ok (.iinc 2 1, 3) := dk_132 2 1 (dk_at dksX5_orders_3 21 rfl rfl)
theorem dX5_orders_94 : decode cX5_orders 94 = .ok (.goto (-87), 3) := dk_167 255 169 (dk_at dksX5_orders_4 0 rfl rfl)
theorem dX5_orders_97 : decode cX5_orders 97 = .ok (.return_, 1) := dk_177 (dk_at dksX5_orders_4 3 rfl rfl)
abbrev cX5_in : ByteArray := prog_17_method_4_code
def yX5_in : MethodName := ⟨RX5, "in", "(II)Z"⟩
def dkwX5_in_0 : List UInt8 := [26, 27, 122, 4, 126, 4, 160, 0, 7, 4, 167, 0, 4, 3, 172]
abbrev dktX5_in_0 : List UInt8 := dkwX5_in_0 ++ []
theorem dksX5_in_0 : cX5_in.data.toList.drop 0 = dktX5_in_0 := by decide +kernel
theorem dX5_in_0 : decode cX5_in 0 = .ok (.iload_n 0, 1) := dk_26 (dk_at dksX5_in_0 0 rfl rfl)
theorem dX5_in_1 : decode cX5_in 1 = .ok (.iload_n 1, 1) := dk_27 (dk_at dksX5_in_0 1 rfl rfl)
theorem dX5_in_2 : decode cX5_in 2 = .ok (.ishr, 1) := dk_122 (dk_at dksX5_in_0 2 rfl rfl)
theorem dX5_in_3 : decode cX5_in 3 = .ok (.iconst 1, 1) := dk_4 (dk_at dksX5_in_0 3 rfl rfl)
theorem dX5_in_4 : decode cX5_in 4 = .ok (.iand, 1) := dk_126 (dk_at dksX5_in_0 4 rfl rfl)
theorem dX5_in_5 : decode cX5_in 5 = .ok (.iconst 1, 1) := dk_4 (dk_at dksX5_in_0 5 rfl rfl)
theorem dX5_in_6 : decode cX5_in 6 = .ok (.if_icmp .ne 7, 3) := dk_160 0 7 (dk_at dksX5_in_0 6 rfl rfl)
theorem dX5_in_9 : decode cX5_in 9 = .ok (.iconst 1, 1) := dk_4 (dk_at dksX5_in_0 9 rfl rfl)
theorem dX5_in_10 : decode cX5_in 10 = .ok (.goto 4, 3) := dk_167 0 4 (dk_at dksX5_in_0 10 rfl rfl)
theorem dX5_in_13 : decode cX5_in 13 = .ok (.iconst 0, 1) := dk_3 (dk_at dksX5_in_0 13 rfl rfl)
theorem dX5_in_14 : decode cX5_in 14 = .ok (.ireturn, 1) := dk_172 (dk_at dksX5_in_0 14 rfl rfl)
abbrev cX5_lookerGoes : ByteArray := prog_17_method_45_code
def yX5_lookerGoes : MethodName := ⟨RX5, "lookerGoes", "(I)V"⟩
def dkwX5_lookerGoes_8 : List UInt8 := [182, 0, 209, 177]
abbrev dktX5_lookerGoes_8 : List UInt8 := dkwX5_lookerGoes_8 ++ []
def dkwX5_lookerGoes_7 : List UInt8 := [27, 182, 0, 213, 182, 0, 209, 42, 180, 0, 13, 27, 46, 4, 160, 0, 13, 42, 27, 42, 27, 182, 0, 213]
abbrev dktX5_lookerGoes_7 : List UInt8 := dkwX5_lookerGoes_7 ++ dktX5_lookerGoes_8
def dkwX5_lookerGoes_6 : List UInt8 := [164, 0, 9, 42, 27, 28, 182, 0, 209, 177, 42, 27, 42, 27, 182, 0, 216, 182, 0, 209, 177, 42, 27, 42]
abbrev dktX5_lookerGoes_6 : List UInt8 := dkwX5_lookerGoes_6 ++ dktX5_lookerGoes_7
def dkwX5_lookerGoes_5 : List UInt8 := [182, 0, 209, 167, 255, 227, 177, 28, 2, 159, 0, 23, 42, 42, 180, 0, 56, 28, 46, 182, 0, 203, 4]
abbrev dktX5_lookerGoes_5 : List UInt8 := dkwX5_lookerGoes_5 ++ dktX5_lookerGoes_6
def dkwX5_lookerGoes_4 : List UInt8 := [180, 0, 16, 27, 46, 182, 0, 197, 2, 159, 0, 21, 42, 27, 42, 42, 180, 0, 16, 27, 46, 182, 0, 197]
abbrev dktX5_lookerGoes_4 : List UInt8 := dkwX5_lookerGoes_4 ++ dktX5_lookerGoes_5
def dkwX5_lookerGoes_3 : List UInt8 := [27, 182, 0, 213, 182, 0, 209, 42, 27, 42, 27, 182, 0, 213, 182, 0, 209, 167, 0, 35, 42, 42]
abbrev dktX5_lookerGoes_3 : List UInt8 := dkwX5_lookerGoes_3 ++ dktX5_lookerGoes_4
def dkwX5_lookerGoes_2 : List UInt8 := [42, 27, 28, 182, 0, 209, 177, 42, 42, 180, 0, 16, 27, 46, 182, 0, 197, 2, 160, 0, 26, 42, 27, 42]
abbrev dktX5_lookerGoes_2 : List UInt8 := dkwX5_lookerGoes_2 ++ dktX5_lookerGoes_3
def dkwX5_lookerGoes_1 : List UInt8 := [170, 0, 0, 0, 0, 0, 0, 146, 0, 0, 0, 2, 0, 0, 0, 5, 0, 0, 0, 32, 0, 0, 0, 39, 0, 0, 0, 109, 0, 0, 0, 135]
abbrev dktX5_lookerGoes_1 : List UInt8 := dkwX5_lookerGoes_1 ++ dktX5_lookerGoes_2
def dkwX5_lookerGoes_0 : List UInt8 := [42, 27, 182, 0, 206, 61, 42, 180, 0, 13, 27, 46]
abbrev dktX5_lookerGoes_0 : List UInt8 := dkwX5_lookerGoes_0 ++ dktX5_lookerGoes_1
theorem dksX5_lookerGoes_0 : cX5_lookerGoes.data.toList.drop 0 = dktX5_lookerGoes_0 := by decide +kernel
theorem dksX5_lookerGoes_1 : cX5_lookerGoes.data.toList.drop 12 = dktX5_lookerGoes_1 := dk_seg dksX5_lookerGoes_0 12 rfl rfl
theorem dksX5_lookerGoes_2 : cX5_lookerGoes.data.toList.drop 44 = dktX5_lookerGoes_2 := dk_seg dksX5_lookerGoes_1 32 rfl rfl
theorem dksX5_lookerGoes_3 : cX5_lookerGoes.data.toList.drop 68 = dktX5_lookerGoes_3 := dk_seg dksX5_lookerGoes_2 24 rfl rfl
theorem dksX5_lookerGoes_4 : cX5_lookerGoes.data.toList.drop 90 = dktX5_lookerGoes_4 := dk_seg dksX5_lookerGoes_3 22 rfl rfl
theorem dksX5_lookerGoes_5 : cX5_lookerGoes.data.toList.drop 114 = dktX5_lookerGoes_5 := dk_seg dksX5_lookerGoes_4 24 rfl rfl
theorem dksX5_lookerGoes_6 : cX5_lookerGoes.data.toList.drop 137 = dktX5_lookerGoes_6 := dk_seg dksX5_lookerGoes_5 23 rfl rfl
theorem dksX5_lookerGoes_7 : cX5_lookerGoes.data.toList.drop 161 = dktX5_lookerGoes_7 := dk_seg dksX5_lookerGoes_6 24 rfl rfl
theorem dksX5_lookerGoes_8 : cX5_lookerGoes.data.toList.drop 185 = dktX5_lookerGoes_8 := dk_seg dksX5_lookerGoes_7 24 rfl rfl
theorem dX5_lookerGoes_0 : decode cX5_lookerGoes 0 = .ok (.aload_n 0, 1) := dk_42 (dk_at dksX5_lookerGoes_0 0 rfl rfl)
theorem dX5_lookerGoes_1 : decode cX5_lookerGoes 1 = .ok (.iload_n 1, 1) := dk_27 (dk_at dksX5_lookerGoes_0 1 rfl rfl)
theorem dX5_lookerGoes_2 : decode cX5_lookerGoes 2 = .ok (.invokevirtual 206, 3) := dk_182 0 206 (dk_at dksX5_lookerGoes_0 2 rfl rfl)
theorem dX5_lookerGoes_5 : decode cX5_lookerGoes 5 = .ok (.istore_n 2, 1) := dk_61 (dk_at dksX5_lookerGoes_0 5 rfl rfl)
theorem dX5_lookerGoes_6 : decode cX5_lookerGoes 6 = .ok (.aload_n 0, 1) := dk_42 (dk_at dksX5_lookerGoes_0 6 rfl rfl)
theorem dX5_lookerGoes_7 : decode cX5_lookerGoes 7 = .ok (.getfield 13, 3) := dk_180 0 13 (dk_at dksX5_lookerGoes_0 7 rfl rfl)
theorem dX5_lookerGoes_10 : decode cX5_lookerGoes 10 = .ok (.iload_n 1, 1) := dk_27 (dk_at dksX5_lookerGoes_0 10 rfl rfl)
theorem dX5_lookerGoes_11 : decode cX5_lookerGoes 11 = .ok (.iaload, 1) := dk_46 (dk_at dksX5_lookerGoes_0 11 rfl rfl)
theorem dX5_lookerGoes_12 : decode cX5_lookerGoes 12 = .ok (.tableswitch 146 2 5 #[32, 39, 109, 135], 32) := by decide +kernel
theorem dX5_lookerGoes_44 : decode cX5_lookerGoes 44 = .ok (.aload_n 0, 1) := dk_42 (dk_at dksX5_lookerGoes_2 0 rfl rfl)
theorem dX5_lookerGoes_45 : decode cX5_lookerGoes 45 = .ok (.iload_n 1, 1) := dk_27 (dk_at dksX5_lookerGoes_2 1 rfl rfl)
theorem dX5_lookerGoes_46 : decode cX5_lookerGoes 46 = .ok (.iload_n 2, 1) := dk_28 (dk_at dksX5_lookerGoes_2 2 rfl rfl)
theorem dX5_lookerGoes_47 : decode cX5_lookerGoes 47 = .ok (.invokevirtual 209, 3) := dk_182 0 209 (dk_at dksX5_lookerGoes_2 3 rfl rfl)
theorem dX5_lookerGoes_50 : decode cX5_lookerGoes 50 = .ok (.return_, 1) := dk_177 (dk_at dksX5_lookerGoes_2 6 rfl rfl)
theorem dX5_lookerGoes_51 : decode cX5_lookerGoes 51 = .ok (.aload_n 0, 1) := dk_42 (dk_at dksX5_lookerGoes_2 7 rfl rfl)
theorem dX5_lookerGoes_52 : decode cX5_lookerGoes 52 = .ok (.aload_n 0, 1) := dk_42 (dk_at dksX5_lookerGoes_2 8 rfl rfl)
theorem dX5_lookerGoes_53 : decode cX5_lookerGoes 53 = .ok (.getfield 16, 3) := dk_180 0 16 (dk_at dksX5_lookerGoes_2 9 rfl rfl)
theorem dX5_lookerGoes_56 : decode cX5_lookerGoes 56 = .ok (.iload_n 1, 1) := dk_27 (dk_at dksX5_lookerGoes_2 12 rfl rfl)
theorem dX5_lookerGoes_57 : decode cX5_lookerGoes 57 = .ok (.iaload, 1) := dk_46 (dk_at dksX5_lookerGoes_2 13 rfl rfl)
theorem dX5_lookerGoes_58 : decode cX5_lookerGoes 58 = .ok (.invokevirtual 197, 3) := dk_182 0 197 (dk_at dksX5_lookerGoes_2 14 rfl rfl)
theorem dX5_lookerGoes_61 : decode cX5_lookerGoes 61 = .ok (.iconst (-1), 1) := dk_2 (dk_at dksX5_lookerGoes_2 17 rfl rfl)
theorem dX5_lookerGoes_62 : decode cX5_lookerGoes 62 = .ok (.if_icmp .ne 26, 3) := dk_160 0 26 (dk_at dksX5_lookerGoes_2 18 rfl rfl)
theorem dX5_lookerGoes_65 : decode cX5_lookerGoes 65 = .ok (.aload_n 0, 1) := dk_42 (dk_at dksX5_lookerGoes_2 21 rfl rfl)
theorem dX5_lookerGoes_66 : decode cX5_lookerGoes 66 = .ok (.iload_n 1, 1) := dk_27 (dk_at dksX5_lookerGoes_2 22 rfl rfl)
theorem dX5_lookerGoes_67 : decode cX5_lookerGoes 67 = .ok (.aload_n 0, 1) := dk_42 (dk_at dksX5_lookerGoes_2 23 rfl rfl)
theorem dX5_lookerGoes_68 : decode cX5_lookerGoes 68 = .ok (.iload_n 1, 1) := dk_27 (dk_at dksX5_lookerGoes_3 0 rfl rfl)
theorem dX5_lookerGoes_69 : decode cX5_lookerGoes 69 = .ok (.invokevirtual 213, 3) := dk_182 0 213 (dk_at dksX5_lookerGoes_3 1 rfl rfl)
theorem dX5_lookerGoes_72 : decode cX5_lookerGoes 72 = .ok (.invokevirtual 209, 3) := dk_182 0 209 (dk_at dksX5_lookerGoes_3 4 rfl rfl)
theorem dX5_lookerGoes_75 : decode cX5_lookerGoes 75 = .ok (.aload_n 0, 1) := dk_42 (dk_at dksX5_lookerGoes_3 7 rfl rfl)
theorem dX5_lookerGoes_76 : decode cX5_lookerGoes 76 = .ok (.iload_n 1, 1) := dk_27 (dk_at dksX5_lookerGoes_3 8 rfl rfl)
theorem dX5_lookerGoes_77 : decode cX5_lookerGoes 77 = .ok (.aload_n 0, 1) := dk_42 (dk_at dksX5_lookerGoes_3 9 rfl rfl)
theorem dX5_lookerGoes_78 : decode cX5_lookerGoes 78 = .ok (.iload_n 1, 1) := dk_27 (dk_at dksX5_lookerGoes_3 10 rfl rfl)
theorem dX5_lookerGoes_79 : decode cX5_lookerGoes 79 = .ok (.invokevirtual 213, 3) := dk_182 0 213 (dk_at dksX5_lookerGoes_3 11 rfl rfl)
theorem dX5_lookerGoes_82 : decode cX5_lookerGoes 82 = .ok (.invokevirtual 209, 3) := dk_182 0 209 (dk_at dksX5_lookerGoes_3 14 rfl rfl)
theorem dX5_lookerGoes_85 : decode cX5_lookerGoes 85 = .ok (.goto 35, 3) := dk_167 0 35 (dk_at dksX5_lookerGoes_3 17 rfl rfl)
theorem dX5_lookerGoes_88 : decode cX5_lookerGoes 88 = .ok (.aload_n 0, 1) := dk_42 (dk_at dksX5_lookerGoes_3 20 rfl rfl)
theorem dX5_lookerGoes_89 : decode cX5_lookerGoes 89 = .ok (.aload_n 0, 1) := dk_42 (dk_at dksX5_lookerGoes_3 21 rfl rfl)
theorem dX5_lookerGoes_90 : decode cX5_lookerGoes 90 = .ok (.getfield 16, 3) := dk_180 0 16 (dk_at dksX5_lookerGoes_4 0 rfl rfl)
theorem dX5_lookerGoes_93 : decode cX5_lookerGoes 93 = .ok (.iload_n 1, 1) := dk_27 (dk_at dksX5_lookerGoes_4 3 rfl rfl)
theorem dX5_lookerGoes_94 : decode cX5_lookerGoes 94 = .ok (.iaload, 1) := dk_46 (dk_at dksX5_lookerGoes_4 4 rfl rfl)
theorem dX5_lookerGoes_95 : decode cX5_lookerGoes 95 = .ok (.invokevirtual 197, 3) := dk_182 0 197 (dk_at dksX5_lookerGoes_4 5 rfl rfl)
theorem dX5_lookerGoes_98 : decode cX5_lookerGoes 98 = .ok (.iconst (-1), 1) := dk_2 (dk_at dksX5_lookerGoes_4 8 rfl rfl)
theorem dX5_lookerGoes_99 : decode cX5_lookerGoes 99 = .ok (.if_icmp .eq 21, 3) := dk_159 0 21 (dk_at dksX5_lookerGoes_4 9 rfl rfl)
theorem dX5_lookerGoes_102 : decode cX5_lookerGoes 102 = .ok (.aload_n 0, 1) := dk_42 (dk_at dksX5_lookerGoes_4 12 rfl rfl)
theorem dX5_lookerGoes_103 : decode cX5_lookerGoes 103 = .ok (.iload_n 1, 1) := dk_27 (dk_at dksX5_lookerGoes_4 13 rfl rfl)
theorem dX5_lookerGoes_104 : decode cX5_lookerGoes 104 = .ok (.aload_n 0, 1) := dk_42 (dk_at dksX5_lookerGoes_4 14 rfl rfl)
theorem dX5_lookerGoes_105 : decode cX5_lookerGoes 105 = .ok (.aload_n 0, 1) := dk_42 (dk_at dksX5_lookerGoes_4 15 rfl rfl)
theorem dX5_lookerGoes_106 : decode cX5_lookerGoes 106 = .ok (.getfield 16, 3) := dk_180 0 16 (dk_at dksX5_lookerGoes_4 16 rfl rfl)
theorem dX5_lookerGoes_109 : decode cX5_lookerGoes 109 = .ok (.iload_n 1, 1) := dk_27 (dk_at dksX5_lookerGoes_4 19 rfl rfl)
theorem dX5_lookerGoes_110 : decode cX5_lookerGoes 110 = .ok (.iaload, 1) := dk_46 (dk_at dksX5_lookerGoes_4 20 rfl rfl)
theorem dX5_lookerGoes_111 : decode cX5_lookerGoes 111 = .ok (.invokevirtual 197, 3) := dk_182 0 197 (dk_at dksX5_lookerGoes_4 21 rfl rfl)
theorem dX5_lookerGoes_114 : decode cX5_lookerGoes 114 = .ok (.invokevirtual 209, 3) := dk_182 0 209 (dk_at dksX5_lookerGoes_5 0 rfl rfl)
theorem dX5_lookerGoes_117 : decode cX5_lookerGoes 117 = .ok (.goto (-29), 3) := dk_167 255 227 (dk_at dksX5_lookerGoes_5 3 rfl rfl)
theorem dX5_lookerGoes_120 : decode cX5_lookerGoes 120 = .ok (.return_, 1) := dk_177 (dk_at dksX5_lookerGoes_5 6 rfl rfl)
theorem dX5_lookerGoes_121 : decode cX5_lookerGoes 121 = .ok (.iload_n 2, 1) := dk_28 (dk_at dksX5_lookerGoes_5 7 rfl rfl)
theorem dX5_lookerGoes_122 : decode cX5_lookerGoes 122 = .ok (.iconst (-1), 1) := dk_2 (dk_at dksX5_lookerGoes_5 8 rfl rfl)
theorem dX5_lookerGoes_123 : decode cX5_lookerGoes 123 = .ok (.if_icmp .eq 23, 3) := dk_159 0 23 (dk_at dksX5_lookerGoes_5 9 rfl rfl)
theorem dX5_lookerGoes_126 : decode cX5_lookerGoes 126 = .ok (.aload_n 0, 1) := dk_42 (dk_at dksX5_lookerGoes_5 12 rfl rfl)
theorem dX5_lookerGoes_127 : decode cX5_lookerGoes 127 = .ok (.aload_n 0, 1) := dk_42 (dk_at dksX5_lookerGoes_5 13 rfl rfl)
theorem dX5_lookerGoes_128 : decode cX5_lookerGoes 128 = .ok (.getfield 56, 3) := dk_180 0 56 (dk_at dksX5_lookerGoes_5 14 rfl rfl)
theorem dX5_lookerGoes_131 : decode cX5_lookerGoes 131 = .ok (.iload_n 2, 1) := dk_28 (dk_at dksX5_lookerGoes_5 17 rfl rfl)
theorem dX5_lookerGoes_132 : decode cX5_lookerGoes 132 = .ok (.iaload, 1) := dk_46 (dk_at dksX5_lookerGoes_5 18 rfl rfl)
theorem dX5_lookerGoes_133 : decode cX5_lookerGoes 133 = .ok (.invokevirtual 203, 3) := dk_182 0 203 (dk_at dksX5_lookerGoes_5 19 rfl rfl)
theorem dX5_lookerGoes_136 : decode cX5_lookerGoes 136 = .ok (.iconst 1, 1) := dk_4 (dk_at dksX5_lookerGoes_5 22 rfl rfl)
theorem dX5_lookerGoes_137 : decode cX5_lookerGoes 137 = .ok (.if_icmp .le 9, 3) := dk_164 0 9 (dk_at dksX5_lookerGoes_6 0 rfl rfl)
theorem dX5_lookerGoes_140 : decode cX5_lookerGoes 140 = .ok (.aload_n 0, 1) := dk_42 (dk_at dksX5_lookerGoes_6 3 rfl rfl)
theorem dX5_lookerGoes_141 : decode cX5_lookerGoes 141 = .ok (.iload_n 1, 1) := dk_27 (dk_at dksX5_lookerGoes_6 4 rfl rfl)
theorem dX5_lookerGoes_142 : decode cX5_lookerGoes 142 = .ok (.iload_n 2, 1) := dk_28 (dk_at dksX5_lookerGoes_6 5 rfl rfl)
theorem dX5_lookerGoes_143 : decode cX5_lookerGoes 143 = .ok (.invokevirtual 209, 3) := dk_182 0 209 (dk_at dksX5_lookerGoes_6 6 rfl rfl)
theorem dX5_lookerGoes_146 : decode cX5_lookerGoes 146 = .ok (.return_, 1) := dk_177 (dk_at dksX5_lookerGoes_6 9 rfl rfl)
theorem dX5_lookerGoes_147 : decode cX5_lookerGoes 147 = .ok (.aload_n 0, 1) := dk_42 (dk_at dksX5_lookerGoes_6 10 rfl rfl)
theorem dX5_lookerGoes_148 : decode cX5_lookerGoes 148 = .ok (.iload_n 1, 1) := dk_27 (dk_at dksX5_lookerGoes_6 11 rfl rfl)
theorem dX5_lookerGoes_149 : decode cX5_lookerGoes 149 = .ok (.aload_n 0, 1) := dk_42 (dk_at dksX5_lookerGoes_6 12 rfl rfl)
theorem dX5_lookerGoes_150 : decode cX5_lookerGoes 150 = .ok (.iload_n 1, 1) := dk_27 (dk_at dksX5_lookerGoes_6 13 rfl rfl)
theorem dX5_lookerGoes_151 : decode cX5_lookerGoes 151 = .ok (.invokevirtual 216, 3) := dk_182 0 216 (dk_at dksX5_lookerGoes_6 14 rfl rfl)
theorem dX5_lookerGoes_154 : decode cX5_lookerGoes 154 = .ok (.invokevirtual 209, 3) := dk_182 0 209 (dk_at dksX5_lookerGoes_6 17 rfl rfl)
theorem dX5_lookerGoes_157 : decode cX5_lookerGoes 157 = .ok (.return_, 1) := dk_177 (dk_at dksX5_lookerGoes_6 20 rfl rfl)
theorem dX5_lookerGoes_158 : decode cX5_lookerGoes 158 = .ok (.aload_n 0, 1) := dk_42 (dk_at dksX5_lookerGoes_6 21 rfl rfl)
theorem dX5_lookerGoes_159 : decode cX5_lookerGoes 159 = .ok (.iload_n 1, 1) := dk_27 (dk_at dksX5_lookerGoes_6 22 rfl rfl)
theorem dX5_lookerGoes_160 : decode cX5_lookerGoes 160 = .ok (.aload_n 0, 1) := dk_42 (dk_at dksX5_lookerGoes_6 23 rfl rfl)
theorem dX5_lookerGoes_161 : decode cX5_lookerGoes 161 = .ok (.iload_n 1, 1) := dk_27 (dk_at dksX5_lookerGoes_7 0 rfl rfl)
theorem dX5_lookerGoes_162 : decode cX5_lookerGoes 162 = .ok (.invokevirtual 213, 3) := dk_182 0 213 (dk_at dksX5_lookerGoes_7 1 rfl rfl)
theorem dX5_lookerGoes_165 : decode cX5_lookerGoes 165 = .ok (.invokevirtual 209, 3) := dk_182 0 209 (dk_at dksX5_lookerGoes_7 4 rfl rfl)
theorem dX5_lookerGoes_168 : decode cX5_lookerGoes 168 = .ok (.aload_n 0, 1) := dk_42 (dk_at dksX5_lookerGoes_7 7 rfl rfl)
theorem dX5_lookerGoes_169 : decode cX5_lookerGoes 169 = .ok (.getfield 13, 3) := dk_180 0 13 (dk_at dksX5_lookerGoes_7 8 rfl rfl)
theorem dX5_lookerGoes_172 : decode cX5_lookerGoes 172 = .ok (.iload_n 1, 1) := dk_27 (dk_at dksX5_lookerGoes_7 11 rfl rfl)
theorem dX5_lookerGoes_173 : decode cX5_lookerGoes 173 = .ok (.iaload, 1) := dk_46 (dk_at dksX5_lookerGoes_7 12 rfl rfl)
theorem dX5_lookerGoes_174 : decode cX5_lookerGoes 174 = .ok (.iconst 1, 1) := dk_4 (dk_at dksX5_lookerGoes_7 13 rfl rfl)
theorem dX5_lookerGoes_175 : decode cX5_lookerGoes 175 = .ok (.if_icmp .ne 13, 3) := dk_160 0 13 (dk_at dksX5_lookerGoes_7 14 rfl rfl)
theorem dX5_lookerGoes_178 : decode cX5_lookerGoes 178 = .ok (.aload_n 0, 1) := dk_42 (dk_at dksX5_lookerGoes_7 17 rfl rfl)
theorem dX5_lookerGoes_179 : decode cX5_lookerGoes 179 = .ok (.iload_n 1, 1) := dk_27 (dk_at dksX5_lookerGoes_7 18 rfl rfl)
theorem dX5_lookerGoes_180 : decode cX5_lookerGoes 180 = .ok (.aload_n 0, 1) := dk_42 (dk_at dksX5_lookerGoes_7 19 rfl rfl)
theorem dX5_lookerGoes_181 : decode cX5_lookerGoes 181 = .ok (.iload_n 1, 1) := dk_27 (dk_at dksX5_lookerGoes_7 20 rfl rfl)
theorem dX5_lookerGoes_182 : decode cX5_lookerGoes 182 = .ok (.invokevirtual 213, 3) := dk_182 0 213 (dk_at dksX5_lookerGoes_7 21 rfl rfl)
theorem dX5_lookerGoes_185 : decode cX5_lookerGoes 185 = .ok (.invokevirtual 209, 3) := dk_182 0 209 (dk_at dksX5_lookerGoes_8 0 rfl rfl)
theorem dX5_lookerGoes_188 : decode cX5_lookerGoes 188 = .ok (.return_, 1) := dk_177 (dk_at dksX5_lookerGoes_8 3 rfl rfl)
abbrev cX5_lastLiked : ByteArray := prog_17_method_43_code
def yX5_lastLiked : MethodName := ⟨RX5, "lastLiked", "(I)I"⟩
def dkwX5_lastLiked_1 : List UInt8 := [29, 61, 132, 3, 1, 167, 255, 231, 28, 172]
abbrev dktX5_lastLiked_1 : List UInt8 := dkwX5_lastLiked_1 ++ []
def dkwX5_lastLiked_0 : List UInt8 := [2, 61, 3, 62, 29, 16, 12, 162, 0, 25, 42, 27, 42, 180, 0, 56, 29, 46, 182, 0, 200, 153, 0, 5]
abbrev dktX5_lastLiked_0 : List UInt8 := dkwX5_lastLiked_0 ++ dktX5_lastLiked_1
theorem dksX5_lastLiked_0 : cX5_lastLiked.data.toList.drop 0 = dktX5_lastLiked_0 := by decide +kernel
theorem dksX5_lastLiked_1 : cX5_lastLiked.data.toList.drop 24 = dktX5_lastLiked_1 := dk_seg dksX5_lastLiked_0 24 rfl rfl
theorem dX5_lastLiked_0 : decode cX5_lastLiked 0 = .ok (.iconst (-1), 1) := dk_2 (dk_at dksX5_lastLiked_0 0 rfl rfl)
theorem dX5_lastLiked_1 : decode cX5_lastLiked 1 = .ok (.istore_n 2, 1) := dk_61 (dk_at dksX5_lastLiked_0 1 rfl rfl)
theorem dX5_lastLiked_2 : decode cX5_lastLiked 2 = .ok (.iconst 0, 1) := dk_3 (dk_at dksX5_lastLiked_0 2 rfl rfl)
theorem dX5_lastLiked_3 : decode cX5_lastLiked 3 = .ok (.istore_n 3, 1) := dk_62 (dk_at dksX5_lastLiked_0 3 rfl rfl)
theorem dX5_lastLiked_4 : decode cX5_lastLiked 4 = .ok (.iload_n 3, 1) := dk_29 (dk_at dksX5_lastLiked_0 4 rfl rfl)
theorem dX5_lastLiked_5 : decode cX5_lastLiked 5 = .ok (.bipush 12, 2) := dk_16 12 (dk_at dksX5_lastLiked_0 5 rfl rfl)
theorem dX5_lastLiked_7 : decode cX5_lastLiked 7 = .ok (.if_icmp .ge 25, 3) := dk_162 0 25 (dk_at dksX5_lastLiked_0 7 rfl rfl)
theorem dX5_lastLiked_10 : decode cX5_lastLiked 10 = .ok (.aload_n 0, 1) := dk_42 (dk_at dksX5_lastLiked_0 10 rfl rfl)
theorem dX5_lastLiked_11 : decode cX5_lastLiked 11 = .ok (.iload_n 1, 1) := dk_27 (dk_at dksX5_lastLiked_0 11 rfl rfl)
theorem dX5_lastLiked_12 : decode cX5_lastLiked 12 = .ok (.aload_n 0, 1) := dk_42 (dk_at dksX5_lastLiked_0 12 rfl rfl)
theorem dX5_lastLiked_13 : decode cX5_lastLiked 13 = .ok (.getfield 56, 3) := dk_180 0 56 (dk_at dksX5_lastLiked_0 13 rfl rfl)
theorem dX5_lastLiked_16 : decode cX5_lastLiked 16 = .ok (.iload_n 3, 1) := dk_29 (dk_at dksX5_lastLiked_0 16 rfl rfl)
theorem dX5_lastLiked_17 : decode cX5_lastLiked 17 = .ok (.iaload, 1) := dk_46 (dk_at dksX5_lastLiked_0 17 rfl rfl)
theorem dX5_lastLiked_18 : decode cX5_lastLiked 18 = .ok (.invokevirtual 200, 3) := dk_182 0 200 (dk_at dksX5_lastLiked_0 18 rfl rfl)
theorem dX5_lastLiked_21 : decode cX5_lastLiked 21 = .ok (.ifCond .eq 5, 3) := dk_153 0 5 (dk_at dksX5_lastLiked_0 21 rfl rfl)
theorem dX5_lastLiked_24 : decode cX5_lastLiked 24 = .ok (.iload_n 3, 1) := dk_29 (dk_at dksX5_lastLiked_1 0 rfl rfl)
theorem dX5_lastLiked_25 : decode cX5_lastLiked 25 = .ok (.istore_n 2, 1) := dk_61 (dk_at dksX5_lastLiked_1 1 rfl rfl)
theorem dX5_lastLiked_26 : decode cX5_lastLiked 26 = .ok (.iinc 3 1, 3) := dk_132 3 1 (dk_at dksX5_lastLiked_1 2 rfl rfl)
theorem dX5_lastLiked_29 : decode cX5_lastLiked 29 = .ok (.goto (-25), 3) := dk_167 255 231 (dk_at dksX5_lastLiked_1 5 rfl rfl)
theorem dX5_lastLiked_32 : decode cX5_lastLiked 32 = .ok (.iload_n 2, 1) := dk_28 (dk_at dksX5_lastLiked_1 8 rfl rfl)
theorem dX5_lastLiked_33 : decode cX5_lastLiked 33 = .ok (.ireturn, 1) := dk_172 (dk_at dksX5_lastLiked_1 9 rfl rfl)
abbrev cX5_doesLike : ByteArray := prog_17_method_38_code
def yX5_doesLike : MethodName := ⟨RX5, "doesLike", "(II)Z"⟩
def dkwX5_doesLike_1 : List UInt8 := [184, 0, 194, 153, 0, 7, 4, 167, 0, 4, 3, 172]
abbrev dktX5_doesLike_1 : List UInt8 := dkwX5_doesLike_1 ++ []
def dkwX5_doesLike_0 : List UInt8 := [28, 2, 159, 0, 30, 28, 42, 180, 0, 16, 27, 46, 159, 0, 16, 42, 180, 0, 22, 27, 46, 28]
abbrev dktX5_doesLike_0 : List UInt8 := dkwX5_doesLike_0 ++ dktX5_doesLike_1
theorem dksX5_doesLike_0 : cX5_doesLike.data.toList.drop 0 = dktX5_doesLike_0 := by decide +kernel
theorem dksX5_doesLike_1 : cX5_doesLike.data.toList.drop 22 = dktX5_doesLike_1 := dk_seg dksX5_doesLike_0 22 rfl rfl
theorem dX5_doesLike_0 : decode cX5_doesLike 0 = .ok (.iload_n 2, 1) := dk_28 (dk_at dksX5_doesLike_0 0 rfl rfl)
theorem dX5_doesLike_1 : decode cX5_doesLike 1 = .ok (.iconst (-1), 1) := dk_2 (dk_at dksX5_doesLike_0 1 rfl rfl)
theorem dX5_doesLike_2 : decode cX5_doesLike 2 = .ok (.if_icmp .eq 30, 3) := dk_159 0 30 (dk_at dksX5_doesLike_0 2 rfl rfl)
theorem dX5_doesLike_5 : decode cX5_doesLike 5 = .ok (.iload_n 2, 1) := dk_28 (dk_at dksX5_doesLike_0 5 rfl rfl)
theorem dX5_doesLike_6 : decode cX5_doesLike 6 = .ok (.aload_n 0, 1) := dk_42 (dk_at dksX5_doesLike_0 6 rfl rfl)
theorem dX5_doesLike_7 : decode cX5_doesLike 7 = .ok (.getfield 16, 3) := dk_180 0 16 (dk_at dksX5_doesLike_0 7 rfl rfl)
theorem dX5_doesLike_10 : decode cX5_doesLike 10 = .ok (.iload_n 1, 1) := dk_27 (dk_at dksX5_doesLike_0 10 rfl rfl)
theorem dX5_doesLike_11 : decode cX5_doesLike 11 = .ok (.iaload, 1) := dk_46 (dk_at dksX5_doesLike_0 11 rfl rfl)
theorem dX5_doesLike_12 : decode cX5_doesLike 12 = .ok (.if_icmp .eq 16, 3) := dk_159 0 16 (dk_at dksX5_doesLike_0 12 rfl rfl)
theorem dX5_doesLike_15 : decode cX5_doesLike 15 = .ok (.aload_n 0, 1) := dk_42 (dk_at dksX5_doesLike_0 15 rfl rfl)
theorem dX5_doesLike_16 : decode cX5_doesLike 16 = .ok (.getfield 22, 3) := dk_180 0 22 (dk_at dksX5_doesLike_0 16 rfl rfl)
theorem dX5_doesLike_19 : decode cX5_doesLike 19 = .ok (.iload_n 1, 1) := dk_27 (dk_at dksX5_doesLike_0 19 rfl rfl)
theorem dX5_doesLike_20 : decode cX5_doesLike 20 = .ok (.iaload, 1) := dk_46 (dk_at dksX5_doesLike_0 20 rfl rfl)
theorem dX5_doesLike_21 : decode cX5_doesLike 21 = .ok (.iload_n 2, 1) := dk_28 (dk_at dksX5_doesLike_0 21 rfl rfl)
theorem dX5_doesLike_22 : decode cX5_doesLike 22 = .ok (.invokestatic 194, 3) := dk_184 0 194 (dk_at dksX5_doesLike_1 0 rfl rfl)
theorem dX5_doesLike_25 : decode cX5_doesLike 25 = .ok (.ifCond .eq 7, 3) := dk_153 0 7 (dk_at dksX5_doesLike_1 3 rfl rfl)
theorem dX5_doesLike_28 : decode cX5_doesLike 28 = .ok (.iconst 1, 1) := dk_4 (dk_at dksX5_doesLike_1 6 rfl rfl)
theorem dX5_doesLike_29 : decode cX5_doesLike 29 = .ok (.goto 4, 3) := dk_167 0 4 (dk_at dksX5_doesLike_1 7 rfl rfl)
theorem dX5_doesLike_32 : decode cX5_doesLike 32 = .ok (.iconst 0, 1) := dk_3 (dk_at dksX5_doesLike_1 10 rfl rfl)
theorem dX5_doesLike_33 : decode cX5_doesLike 33 = .ok (.ireturn, 1) := dk_172 (dk_at dksX5_doesLike_1 11 rfl rfl)
abbrev cX5_takes : ByteArray := prog_17_method_41_code
def yX5_takes : MethodName := ⟨RX5, "takes", "(II)V"⟩
def dkwX5_takes_1 : List UInt8 := [180, 0, 62, 27, 92, 46, 4, 28, 120, 128, 79, 42, 180, 0, 56, 28, 2, 79, 177]
abbrev dktX5_takes_1 : List UInt8 := dkwX5_takes_1 ++ []
def dkwX5_takes_0 : List UInt8 := [28, 2, 160, 0, 4, 177, 42, 180, 0, 62, 27, 46, 154, 0, 10, 42, 180, 0, 65, 27, 28, 79, 42]
abbrev dktX5_takes_0 : List UInt8 := dkwX5_takes_0 ++ dktX5_takes_1
theorem dksX5_takes_0 : cX5_takes.data.toList.drop 0 = dktX5_takes_0 := by decide +kernel
theorem dksX5_takes_1 : cX5_takes.data.toList.drop 23 = dktX5_takes_1 := dk_seg dksX5_takes_0 23 rfl rfl
theorem dX5_takes_0 : decode cX5_takes 0 = .ok (.iload_n 2, 1) := dk_28 (dk_at dksX5_takes_0 0 rfl rfl)
theorem dX5_takes_1 : decode cX5_takes 1 = .ok (.iconst (-1), 1) := dk_2 (dk_at dksX5_takes_0 1 rfl rfl)
theorem dX5_takes_2 : decode cX5_takes 2 = .ok (.if_icmp .ne 4, 3) := dk_160 0 4 (dk_at dksX5_takes_0 2 rfl rfl)
theorem dX5_takes_5 : decode cX5_takes 5 = .ok (.return_, 1) := dk_177 (dk_at dksX5_takes_0 5 rfl rfl)
theorem dX5_takes_6 : decode cX5_takes 6 = .ok (.aload_n 0, 1) := dk_42 (dk_at dksX5_takes_0 6 rfl rfl)
theorem dX5_takes_7 : decode cX5_takes 7 = .ok (.getfield 62, 3) := dk_180 0 62 (dk_at dksX5_takes_0 7 rfl rfl)
theorem dX5_takes_10 : decode cX5_takes 10 = .ok (.iload_n 1, 1) := dk_27 (dk_at dksX5_takes_0 10 rfl rfl)
theorem dX5_takes_11 : decode cX5_takes 11 = .ok (.iaload, 1) := dk_46 (dk_at dksX5_takes_0 11 rfl rfl)
theorem dX5_takes_12 : decode cX5_takes 12 = .ok (.ifCond .ne 10, 3) := dk_154 0 10 (dk_at dksX5_takes_0 12 rfl rfl)
theorem dX5_takes_15 : decode cX5_takes 15 = .ok (.aload_n 0, 1) := dk_42 (dk_at dksX5_takes_0 15 rfl rfl)
theorem dX5_takes_16 : decode cX5_takes 16 = .ok (.getfield 65, 3) := dk_180 0 65 (dk_at dksX5_takes_0 16 rfl rfl)
theorem dX5_takes_19 : decode cX5_takes 19 = .ok (.iload_n 1, 1) := dk_27 (dk_at dksX5_takes_0 19 rfl rfl)
theorem dX5_takes_20 : decode cX5_takes 20 = .ok (.iload_n 2, 1) := dk_28 (dk_at dksX5_takes_0 20 rfl rfl)
theorem dX5_takes_21 : decode cX5_takes 21 = .ok (.iastore, 1) := dk_79 (dk_at dksX5_takes_0 21 rfl rfl)
theorem dX5_takes_22 : decode cX5_takes 22 = .ok (.aload_n 0, 1) := dk_42 (dk_at dksX5_takes_0 22 rfl rfl)
theorem dX5_takes_23 : decode cX5_takes 23 = .ok (.getfield 62, 3) := dk_180 0 62 (dk_at dksX5_takes_1 0 rfl rfl)
theorem dX5_takes_26 : decode cX5_takes 26 = .ok (.iload_n 1, 1) := dk_27 (dk_at dksX5_takes_1 3 rfl rfl)
theorem dX5_takes_27 : decode cX5_takes 27 = .ok (.dup2, 1) := dk_92 (dk_at dksX5_takes_1 4 rfl rfl)
theorem dX5_takes_28 : decode cX5_takes 28 = .ok (.iaload, 1) := dk_46 (dk_at dksX5_takes_1 5 rfl rfl)
theorem dX5_takes_29 : decode cX5_takes 29 = .ok (.iconst 1, 1) := dk_4 (dk_at dksX5_takes_1 6 rfl rfl)
theorem dX5_takes_30 : decode cX5_takes 30 = .ok (.iload_n 2, 1) := dk_28 (dk_at dksX5_takes_1 7 rfl rfl)
theorem dX5_takes_31 : decode cX5_takes 31 = .ok (.ishl, 1) := dk_120 (dk_at dksX5_takes_1 8 rfl rfl)
theorem dX5_takes_32 : decode cX5_takes 32 = .ok (.ior, 1) := dk_128 (dk_at dksX5_takes_1 9 rfl rfl)
theorem dX5_takes_33 : decode cX5_takes 33 = .ok (.iastore, 1) := dk_79 (dk_at dksX5_takes_1 10 rfl rfl)
theorem dX5_takes_34 : decode cX5_takes 34 = .ok (.aload_n 0, 1) := dk_42 (dk_at dksX5_takes_1 11 rfl rfl)
theorem dX5_takes_35 : decode cX5_takes 35 = .ok (.getfield 56, 3) := dk_180 0 56 (dk_at dksX5_takes_1 12 rfl rfl)
theorem dX5_takes_38 : decode cX5_takes 38 = .ok (.iload_n 2, 1) := dk_28 (dk_at dksX5_takes_1 15 rfl rfl)
theorem dX5_takes_39 : decode cX5_takes 39 = .ok (.iconst (-1), 1) := dk_2 (dk_at dksX5_takes_1 16 rfl rfl)
theorem dX5_takes_40 : decode cX5_takes 40 = .ok (.iastore, 1) := dk_79 (dk_at dksX5_takes_1 17 rfl rfl)
theorem dX5_takes_41 : decode cX5_takes 41 = .ok (.return_, 1) := dk_177 (dk_at dksX5_takes_1 18 rfl rfl)
abbrev cX5_firstWith : ByteArray := prog_17_method_40_code
def yX5_firstWith : MethodName := ⟨RX5, "firstWith", "(I)I"⟩
def dkwX5_firstWith_1 : List UInt8 := [167, 255, 235, 2, 172]
abbrev dktX5_firstWith_1 : List UInt8 := dkwX5_firstWith_1 ++ []
def dkwX5_firstWith_0 : List UInt8 := [3, 61, 28, 16, 12, 162, 0, 21, 42, 180, 0, 56, 28, 46, 27, 160, 0, 5, 28, 172, 132, 2, 1]
abbrev dktX5_firstWith_0 : List UInt8 := dkwX5_firstWith_0 ++ dktX5_firstWith_1
theorem dksX5_firstWith_0 : cX5_firstWith.data.toList.drop 0 = dktX5_firstWith_0 := by decide +kernel
theorem dksX5_firstWith_1 : cX5_firstWith.data.toList.drop 23 = dktX5_firstWith_1 := dk_seg dksX5_firstWith_0 23 rfl rfl
theorem dX5_firstWith_0 : decode cX5_firstWith 0 = .ok (.iconst 0, 1) := dk_3 (dk_at dksX5_firstWith_0 0 rfl rfl)
theorem dX5_firstWith_1 : decode cX5_firstWith 1 = .ok (.istore_n 2, 1) := dk_61 (dk_at dksX5_firstWith_0 1 rfl rfl)
theorem dX5_firstWith_2 : decode cX5_firstWith 2 = .ok (.iload_n 2, 1) := dk_28 (dk_at dksX5_firstWith_0 2 rfl rfl)
theorem dX5_firstWith_3 : decode cX5_firstWith 3 = .ok (.bipush 12, 2) := dk_16 12 (dk_at dksX5_firstWith_0 3 rfl rfl)
theorem dX5_firstWith_5 : decode cX5_firstWith 5 = .ok (.if_icmp .ge 21, 3) := dk_162 0 21 (dk_at dksX5_firstWith_0 5 rfl rfl)
theorem dX5_firstWith_8 : decode cX5_firstWith 8 = .ok (.aload_n 0, 1) := dk_42 (dk_at dksX5_firstWith_0 8 rfl rfl)
theorem dX5_firstWith_9 : decode cX5_firstWith 9 = .ok (.getfield 56, 3) := dk_180 0 56 (dk_at dksX5_firstWith_0 9 rfl rfl)
theorem dX5_firstWith_12 : decode cX5_firstWith 12 = .ok (.iload_n 2, 1) := dk_28 (dk_at dksX5_firstWith_0 12 rfl rfl)
theorem dX5_firstWith_13 : decode cX5_firstWith 13 = .ok (.iaload, 1) := dk_46 (dk_at dksX5_firstWith_0 13 rfl rfl)
theorem dX5_firstWith_14 : decode cX5_firstWith 14 = .ok (.iload_n 1, 1) := dk_27 (dk_at dksX5_firstWith_0 14 rfl rfl)
theorem dX5_firstWith_15 : decode cX5_firstWith 15 = .ok (.if_icmp .ne 5, 3) := dk_160 0 5 (dk_at dksX5_firstWith_0 15 rfl rfl)
theorem dX5_firstWith_18 : decode cX5_firstWith 18 = .ok (.iload_n 2, 1) := dk_28 (dk_at dksX5_firstWith_0 18 rfl rfl)
theorem dX5_firstWith_19 : decode cX5_firstWith 19 = .ok (.ireturn, 1) := dk_172 (dk_at dksX5_firstWith_0 19 rfl rfl)
theorem dX5_firstWith_20 : decode cX5_firstWith 20 = .ok (.iinc 2 1, 3) := dk_132 2 1 (dk_at dksX5_firstWith_0 20 rfl rfl)
theorem dX5_firstWith_23 : decode cX5_firstWith 23 = .ok (.goto (-21), 3) := dk_167 255 235 (dk_at dksX5_firstWith_1 0 rfl rfl)
theorem dX5_firstWith_26 : decode cX5_firstWith 26 = .ok (.iconst (-1), 1) := dk_2 (dk_at dksX5_firstWith_1 3 rfl rfl)
theorem dX5_firstWith_27 : decode cX5_firstWith 27 = .ok (.ireturn, 1) := dk_172 (dk_at dksX5_firstWith_1 4 rfl rfl)
abbrev cX5_look : ByteArray := prog_17_method_42_code
def yX5_look : MethodName := ⟨RX5, "look", "(I)I"⟩
def dkwX5_look_1 : List UInt8 := [42, 27, 42, 180, 0, 56, 29, 46, 182, 0, 200, 153, 0, 5, 29, 61, 132, 3, 1, 167, 255, 226, 28, 172]
abbrev dktX5_look_1 : List UInt8 := dkwX5_look_1 ++ []
def dkwX5_look_0 : List UInt8 := [42, 42, 180, 0, 16, 27, 46, 182, 0, 197, 61, 3, 62, 29, 16, 12, 162, 0, 30, 28, 2, 160, 0, 25]
abbrev dktX5_look_0 : List UInt8 := dkwX5_look_0 ++ dktX5_look_1
theorem dksX5_look_0 : cX5_look.data.toList.drop 0 = dktX5_look_0 := by decide +kernel
theorem dksX5_look_1 : cX5_look.data.toList.drop 24 = dktX5_look_1 := dk_seg dksX5_look_0 24 rfl rfl
theorem dX5_look_0 : decode cX5_look 0 = .ok (.aload_n 0, 1) := dk_42 (dk_at dksX5_look_0 0 rfl rfl)
theorem dX5_look_1 : decode cX5_look 1 = .ok (.aload_n 0, 1) := dk_42 (dk_at dksX5_look_0 1 rfl rfl)
theorem dX5_look_2 : decode cX5_look 2 = .ok (.getfield 16, 3) := dk_180 0 16 (dk_at dksX5_look_0 2 rfl rfl)
theorem dX5_look_5 : decode cX5_look 5 = .ok (.iload_n 1, 1) := dk_27 (dk_at dksX5_look_0 5 rfl rfl)
theorem dX5_look_6 : decode cX5_look 6 = .ok (.iaload, 1) := dk_46 (dk_at dksX5_look_0 6 rfl rfl)
theorem dX5_look_7 : decode cX5_look 7 = .ok (.invokevirtual 197, 3) := dk_182 0 197 (dk_at dksX5_look_0 7 rfl rfl)
theorem dX5_look_10 : decode cX5_look 10 = .ok (.istore_n 2, 1) := dk_61 (dk_at dksX5_look_0 10 rfl rfl)
theorem dX5_look_11 : decode cX5_look 11 = .ok (.iconst 0, 1) := dk_3 (dk_at dksX5_look_0 11 rfl rfl)
theorem dX5_look_12 : decode cX5_look 12 = .ok (.istore_n 3, 1) := dk_62 (dk_at dksX5_look_0 12 rfl rfl)
theorem dX5_look_13 : decode cX5_look 13 = .ok (.iload_n 3, 1) := dk_29 (dk_at dksX5_look_0 13 rfl rfl)
theorem dX5_look_14 : decode cX5_look 14 = .ok (.bipush 12, 2) := dk_16 12 (dk_at dksX5_look_0 14 rfl rfl)
theorem dX5_look_16 : decode cX5_look 16 = .ok (.if_icmp .ge 30, 3) := dk_162 0 30 (dk_at dksX5_look_0 16 rfl rfl)
theorem dX5_look_19 : decode cX5_look 19 = .ok (.iload_n 2, 1) := dk_28 (dk_at dksX5_look_0 19 rfl rfl)
theorem dX5_look_20 : decode cX5_look 20 = .ok (.iconst (-1), 1) := dk_2 (dk_at dksX5_look_0 20 rfl rfl)
theorem dX5_look_21 : decode cX5_look 21 = .ok (.if_icmp .ne 25, 3) := dk_160 0 25 (dk_at dksX5_look_0 21 rfl rfl)
theorem dX5_look_24 : decode cX5_look 24 = .ok (.aload_n 0, 1) := dk_42 (dk_at dksX5_look_1 0 rfl rfl)
theorem dX5_look_25 : decode cX5_look 25 = .ok (.iload_n 1, 1) := dk_27 (dk_at dksX5_look_1 1 rfl rfl)
theorem dX5_look_26 : decode cX5_look 26 = .ok (.aload_n 0, 1) := dk_42 (dk_at dksX5_look_1 2 rfl rfl)
theorem dX5_look_27 : decode cX5_look 27 = .ok (.getfield 56, 3) := dk_180 0 56 (dk_at dksX5_look_1 3 rfl rfl)
theorem dX5_look_30 : decode cX5_look 30 = .ok (.iload_n 3, 1) := dk_29 (dk_at dksX5_look_1 6 rfl rfl)
theorem dX5_look_31 : decode cX5_look 31 = .ok (.iaload, 1) := dk_46 (dk_at dksX5_look_1 7 rfl rfl)
theorem dX5_look_32 : decode cX5_look 32 = .ok (.invokevirtual 200, 3) := dk_182 0 200 (dk_at dksX5_look_1 8 rfl rfl)
theorem dX5_look_35 : decode cX5_look 35 = .ok (.ifCond .eq 5, 3) := dk_153 0 5 (dk_at dksX5_look_1 11 rfl rfl)
theorem dX5_look_38 : decode cX5_look 38 = .ok (.iload_n 3, 1) := dk_29 (dk_at dksX5_look_1 14 rfl rfl)
theorem dX5_look_39 : decode cX5_look 39 = .ok (.istore_n 2, 1) := dk_61 (dk_at dksX5_look_1 15 rfl rfl)
theorem dX5_look_40 : decode cX5_look 40 = .ok (.iinc 3 1, 3) := dk_132 3 1 (dk_at dksX5_look_1 16 rfl rfl)
theorem dX5_look_43 : decode cX5_look 43 = .ok (.goto (-30), 3) := dk_167 255 226 (dk_at dksX5_look_1 19 rfl rfl)
theorem dX5_look_46 : decode cX5_look 46 = .ok (.iload_n 2, 1) := dk_28 (dk_at dksX5_look_1 22 rfl rfl)
theorem dX5_look_47 : decode cX5_look 47 = .ok (.ireturn, 1) := dk_172 (dk_at dksX5_look_1 23 rfl rfl)
abbrev cX5_manyOf : ByteArray := prog_17_method_39_code
def yX5_manyOf : MethodName := ⟨RX5, "manyOf", "(I)I"⟩
def dkwX5_manyOf_1 : List UInt8 := [132, 3, 1, 167, 255, 234, 28, 172]
abbrev dktX5_manyOf_1 : List UInt8 := dkwX5_manyOf_1 ++ []
def dkwX5_manyOf_0 : List UInt8 := [3, 61, 3, 62, 29, 16, 12, 162, 0, 22, 42, 180, 0, 56, 29, 46, 27, 160, 0, 6, 132, 2, 1]
abbrev dktX5_manyOf_0 : List UInt8 := dkwX5_manyOf_0 ++ dktX5_manyOf_1
theorem dksX5_manyOf_0 : cX5_manyOf.data.toList.drop 0 = dktX5_manyOf_0 := by decide +kernel
theorem dksX5_manyOf_1 : cX5_manyOf.data.toList.drop 23 = dktX5_manyOf_1 := dk_seg dksX5_manyOf_0 23 rfl rfl
theorem dX5_manyOf_0 : decode cX5_manyOf 0 = .ok (.iconst 0, 1) := dk_3 (dk_at dksX5_manyOf_0 0 rfl rfl)
theorem dX5_manyOf_1 : decode cX5_manyOf 1 = .ok (.istore_n 2, 1) := dk_61 (dk_at dksX5_manyOf_0 1 rfl rfl)
theorem dX5_manyOf_2 : decode cX5_manyOf 2 = .ok (.iconst 0, 1) := dk_3 (dk_at dksX5_manyOf_0 2 rfl rfl)
theorem dX5_manyOf_3 : decode cX5_manyOf 3 = .ok (.istore_n 3, 1) := dk_62 (dk_at dksX5_manyOf_0 3 rfl rfl)
theorem dX5_manyOf_4 : decode cX5_manyOf 4 = .ok (.iload_n 3, 1) := dk_29 (dk_at dksX5_manyOf_0 4 rfl rfl)
theorem dX5_manyOf_5 : decode cX5_manyOf 5 = .ok (.bipush 12, 2) := dk_16 12 (dk_at dksX5_manyOf_0 5 rfl rfl)
theorem dX5_manyOf_7 : decode cX5_manyOf 7 = .ok (.if_icmp .ge 22, 3) := dk_162 0 22 (dk_at dksX5_manyOf_0 7 rfl rfl)
theorem dX5_manyOf_10 : decode cX5_manyOf 10 = .ok (.aload_n 0, 1) := dk_42 (dk_at dksX5_manyOf_0 10 rfl rfl)
theorem dX5_manyOf_11 : decode cX5_manyOf 11 = .ok (.getfield 56, 3) := dk_180 0 56 (dk_at dksX5_manyOf_0 11 rfl rfl)
theorem dX5_manyOf_14 : decode cX5_manyOf 14 = .ok (.iload_n 3, 1) := dk_29 (dk_at dksX5_manyOf_0 14 rfl rfl)
theorem dX5_manyOf_15 : decode cX5_manyOf 15 = .ok (.iaload, 1) := dk_46 (dk_at dksX5_manyOf_0 15 rfl rfl)
theorem dX5_manyOf_16 : decode cX5_manyOf 16 = .ok (.iload_n 1, 1) := dk_27 (dk_at dksX5_manyOf_0 16 rfl rfl)
theorem dX5_manyOf_17 : decode cX5_manyOf 17 = .ok (.if_icmp .ne 6, 3) := dk_160 0 6 (dk_at dksX5_manyOf_0 17 rfl rfl)
theorem dX5_manyOf_20 : decode cX5_manyOf 20 = .ok (.iinc 2 1, 3) := dk_132 2 1 (dk_at dksX5_manyOf_0 20 rfl rfl)
theorem dX5_manyOf_23 : decode cX5_manyOf 23 = .ok (.iinc 3 1, 3) := dk_132 3 1 (dk_at dksX5_manyOf_1 0 rfl rfl)
theorem dX5_manyOf_26 : decode cX5_manyOf 26 = .ok (.goto (-22), 3) := dk_167 255 234 (dk_at dksX5_manyOf_1 3 rfl rfl)
theorem dX5_manyOf_29 : decode cX5_manyOf 29 = .ok (.iload_n 2, 1) := dk_28 (dk_at dksX5_manyOf_1 6 rfl rfl)
theorem dX5_manyOf_30 : decode cX5_manyOf 30 = .ok (.ireturn, 1) := dk_172 (dk_at dksX5_manyOf_1 7 rfl rfl)
abbrev cX5_shyest : ByteArray := prog_17_method_44_code
def yX5_shyest : MethodName := ⟨RX5, "shyest", "(I)I"⟩
def dkwX5_shyest_2 : List UInt8 := [182, 0, 197, 62, 132, 4, 1, 167, 255, 209, 29, 172]
abbrev dktX5_shyest_2 : List UInt8 := dkwX5_shyest_2 ++ []
def dkwX5_shyest_1 : List UInt8 := [42, 21, 4, 182, 0, 203, 28, 163, 0, 6, 167, 0, 17, 42, 21, 4, 182, 0, 203, 61, 42, 21, 4]
abbrev dktX5_shyest_1 : List UInt8 := dkwX5_shyest_1 ++ dktX5_shyest_2
def dkwX5_shyest_0 : List UInt8 := [3, 61, 2, 62, 3, 54, 4, 21, 4, 16, 8, 162, 0, 46, 42, 27, 21, 4, 182, 0, 200, 153, 0, 30]
abbrev dktX5_shyest_0 : List UInt8 := dkwX5_shyest_0 ++ dktX5_shyest_1
theorem dksX5_shyest_0 : cX5_shyest.data.toList.drop 0 = dktX5_shyest_0 := by decide +kernel
theorem dksX5_shyest_1 : cX5_shyest.data.toList.drop 24 = dktX5_shyest_1 := dk_seg dksX5_shyest_0 24 rfl rfl
theorem dksX5_shyest_2 : cX5_shyest.data.toList.drop 47 = dktX5_shyest_2 := dk_seg dksX5_shyest_1 23 rfl rfl
theorem dX5_shyest_0 : decode cX5_shyest 0 = .ok (.iconst 0, 1) := dk_3 (dk_at dksX5_shyest_0 0 rfl rfl)
theorem dX5_shyest_1 : decode cX5_shyest 1 = .ok (.istore_n 2, 1) := dk_61 (dk_at dksX5_shyest_0 1 rfl rfl)
theorem dX5_shyest_2 : decode cX5_shyest 2 = .ok (.iconst (-1), 1) := dk_2 (dk_at dksX5_shyest_0 2 rfl rfl)
theorem dX5_shyest_3 : decode cX5_shyest 3 = .ok (.istore_n 3, 1) := dk_62 (dk_at dksX5_shyest_0 3 rfl rfl)
theorem dX5_shyest_4 : decode cX5_shyest 4 = .ok (.iconst 0, 1) := dk_3 (dk_at dksX5_shyest_0 4 rfl rfl)
theorem dX5_shyest_5 : decode cX5_shyest 5 = .ok (.istore 4, 2) := dk_54 4 (dk_at dksX5_shyest_0 5 rfl rfl)
theorem dX5_shyest_7 : decode cX5_shyest 7 = .ok (.iload 4, 2) := dk_21 4 (dk_at dksX5_shyest_0 7 rfl rfl)
theorem dX5_shyest_9 : decode cX5_shyest 9 = .ok (.bipush 8, 2) := dk_16 8 (dk_at dksX5_shyest_0 9 rfl rfl)
theorem dX5_shyest_11 : decode cX5_shyest 11 = .ok (.if_icmp .ge 46, 3) := dk_162 0 46 (dk_at dksX5_shyest_0 11 rfl rfl)
theorem dX5_shyest_14 : decode cX5_shyest 14 = .ok (.aload_n 0, 1) := dk_42 (dk_at dksX5_shyest_0 14 rfl rfl)
theorem dX5_shyest_15 : decode cX5_shyest 15 = .ok (.iload_n 1, 1) := dk_27 (dk_at dksX5_shyest_0 15 rfl rfl)
theorem dX5_shyest_16 : decode cX5_shyest 16 = .ok (.iload 4, 2) := dk_21 4 (dk_at dksX5_shyest_0 16 rfl rfl)
theorem dX5_shyest_18 : decode cX5_shyest 18 = .ok (.invokevirtual 200, 3) := dk_182 0 200 (dk_at dksX5_shyest_0 18 rfl rfl)
theorem dX5_shyest_21 : decode cX5_shyest 21 = .ok (.ifCond .eq 30, 3) := dk_153 0 30 (dk_at dksX5_shyest_0 21 rfl rfl)
theorem dX5_shyest_24 : decode cX5_shyest 24 = .ok (.aload_n 0, 1) := dk_42 (dk_at dksX5_shyest_1 0 rfl rfl)
theorem dX5_shyest_25 : decode cX5_shyest 25 = .ok (.iload 4, 2) := dk_21 4 (dk_at dksX5_shyest_1 1 rfl rfl)
theorem dX5_shyest_27 : decode cX5_shyest 27 = .ok (.invokevirtual 203, 3) := dk_182 0 203 (dk_at dksX5_shyest_1 3 rfl rfl)
theorem dX5_shyest_30 : decode cX5_shyest 30 = .ok (.iload_n 2, 1) := dk_28 (dk_at dksX5_shyest_1 6 rfl rfl)
theorem dX5_shyest_31 : decode cX5_shyest 31 = .ok (.if_icmp .gt 6, 3) := dk_163 0 6 (dk_at dksX5_shyest_1 7 rfl rfl)
theorem dX5_shyest_34 : decode cX5_shyest 34 = .ok (.goto 17, 3) := dk_167 0 17 (dk_at dksX5_shyest_1 10 rfl rfl)
theorem dX5_shyest_37 : decode cX5_shyest 37 = .ok (.aload_n 0, 1) := dk_42 (dk_at dksX5_shyest_1 13 rfl rfl)
theorem dX5_shyest_38 : decode cX5_shyest 38 = .ok (.iload 4, 2) := dk_21 4 (dk_at dksX5_shyest_1 14 rfl rfl)
theorem dX5_shyest_40 : decode cX5_shyest 40 = .ok (.invokevirtual 203, 3) := dk_182 0 203 (dk_at dksX5_shyest_1 16 rfl rfl)
theorem dX5_shyest_43 : decode cX5_shyest 43 = .ok (.istore_n 2, 1) := dk_61 (dk_at dksX5_shyest_1 19 rfl rfl)
theorem dX5_shyest_44 : decode cX5_shyest 44 = .ok (.aload_n 0, 1) := dk_42 (dk_at dksX5_shyest_1 20 rfl rfl)
theorem dX5_shyest_45 : decode cX5_shyest 45 = .ok (.iload 4, 2) := dk_21 4 (dk_at dksX5_shyest_1 21 rfl rfl)
theorem dX5_shyest_47 : decode cX5_shyest 47 = .ok (.invokevirtual 197, 3) := dk_182 0 197 (dk_at dksX5_shyest_2 0 rfl rfl)
theorem dX5_shyest_50 : decode cX5_shyest 50 = .ok (.istore_n 3, 1) := dk_62 (dk_at dksX5_shyest_2 3 rfl rfl)
theorem dX5_shyest_51 : decode cX5_shyest 51 = .ok (.iinc 4 1, 3) := dk_132 4 1 (dk_at dksX5_shyest_2 4 rfl rfl)
theorem dX5_shyest_54 : decode cX5_shyest 54 = .ok (.goto (-47), 3) := dk_167 255 209 (dk_at dksX5_shyest_2 7 rfl rfl)
theorem dX5_shyest_57 : decode cX5_shyest 57 = .ok (.iload_n 3, 1) := dk_29 (dk_at dksX5_shyest_2 10 rfl rfl)
theorem dX5_shyest_58 : decode cX5_shyest 58 = .ok (.ireturn, 1) := dk_172 (dk_at dksX5_shyest_2 11 rfl rfl)
abbrev cX5_place : ByteArray := prog_17_method_22_code
def yX5_place : MethodName := ⟨RX5, "place", "(II)I"⟩
def dkwX5_place_1 : List UInt8 := [42, 180, 0, 9, 27, 46, 62, 42, 180, 0, 9, 27, 28, 79, 29, 172]
abbrev dktX5_place_1 : List UInt8 := dkwX5_place_1 ++ []
def dkwX5_place_0 : List UInt8 := [27, 184, 0, 121, 153, 0, 13, 28, 2, 16, 7, 184, 0, 85, 154, 0, 10, 42, 16, 254, 182, 0, 96, 172]
abbrev dktX5_place_0 : List UInt8 := dkwX5_place_0 ++ dktX5_place_1
theorem dksX5_place_0 : cX5_place.data.toList.drop 0 = dktX5_place_0 := by decide +kernel
theorem dksX5_place_1 : cX5_place.data.toList.drop 24 = dktX5_place_1 := dk_seg dksX5_place_0 24 rfl rfl
theorem dX5_place_0 : decode cX5_place 0 = .ok (.iload_n 1, 1) := dk_27 (dk_at dksX5_place_0 0 rfl rfl)
theorem dX5_place_1 : decode cX5_place 1 = .ok (.invokestatic 121, 3) := dk_184 0 121 (dk_at dksX5_place_0 1 rfl rfl)
theorem dX5_place_4 : decode cX5_place 4 = .ok (.ifCond .eq 13, 3) := dk_153 0 13 (dk_at dksX5_place_0 4 rfl rfl)
theorem dX5_place_7 : decode cX5_place 7 = .ok (.iload_n 2, 1) := dk_28 (dk_at dksX5_place_0 7 rfl rfl)
theorem dX5_place_8 : decode cX5_place 8 = .ok (.iconst (-1), 1) := dk_2 (dk_at dksX5_place_0 8 rfl rfl)
theorem dX5_place_9 : decode cX5_place 9 = .ok (.bipush 7, 2) := dk_16 7 (dk_at dksX5_place_0 9 rfl rfl)
theorem dX5_place_11 : decode cX5_place 11 = .ok (.invokestatic 85, 3) := dk_184 0 85 (dk_at dksX5_place_0 11 rfl rfl)
theorem dX5_place_14 : decode cX5_place 14 = .ok (.ifCond .ne 10, 3) := dk_154 0 10 (dk_at dksX5_place_0 14 rfl rfl)
theorem dX5_place_17 : decode cX5_place 17 = .ok (.aload_n 0, 1) := dk_42 (dk_at dksX5_place_0 17 rfl rfl)
theorem dX5_place_18 : decode cX5_place 18 = .ok (.bipush (-2), 2) := dk_16 254 (dk_at dksX5_place_0 18 rfl rfl)
theorem dX5_place_20 : decode cX5_place 20 = .ok (.invokevirtual 96, 3) := dk_182 0 96 (dk_at dksX5_place_0 20 rfl rfl)
theorem dX5_place_23 : decode cX5_place 23 = .ok (.ireturn, 1) := dk_172 (dk_at dksX5_place_0 23 rfl rfl)
theorem dX5_place_24 : decode cX5_place 24 = .ok (.aload_n 0, 1) := dk_42 (dk_at dksX5_place_1 0 rfl rfl)
theorem dX5_place_25 : decode cX5_place 25 = .ok (.getfield 9, 3) := dk_180 0 9 (dk_at dksX5_place_1 1 rfl rfl)
theorem dX5_place_28 : decode cX5_place 28 = .ok (.iload_n 1, 1) := dk_27 (dk_at dksX5_place_1 4 rfl rfl)
theorem dX5_place_29 : decode cX5_place 29 = .ok (.iaload, 1) := dk_46 (dk_at dksX5_place_1 5 rfl rfl)
theorem dX5_place_30 : decode cX5_place 30 = .ok (.istore_n 3, 1) := dk_62 (dk_at dksX5_place_1 6 rfl rfl)
theorem dX5_place_31 : decode cX5_place 31 = .ok (.aload_n 0, 1) := dk_42 (dk_at dksX5_place_1 7 rfl rfl)
theorem dX5_place_32 : decode cX5_place 32 = .ok (.getfield 9, 3) := dk_180 0 9 (dk_at dksX5_place_1 8 rfl rfl)
theorem dX5_place_35 : decode cX5_place 35 = .ok (.iload_n 1, 1) := dk_27 (dk_at dksX5_place_1 11 rfl rfl)
theorem dX5_place_36 : decode cX5_place 36 = .ok (.iload_n 2, 1) := dk_28 (dk_at dksX5_place_1 12 rfl rfl)
theorem dX5_place_37 : decode cX5_place 37 = .ok (.iastore, 1) := dk_79 (dk_at dksX5_place_1 13 rfl rfl)
theorem dX5_place_38 : decode cX5_place 38 = .ok (.iload_n 3, 1) := dk_29 (dk_at dksX5_place_1 14 rfl rfl)
theorem dX5_place_39 : decode cX5_place 39 = .ok (.ireturn, 1) := dk_172 (dk_at dksX5_place_1 15 rfl rfl)
abbrev cX5_isPlace : ByteArray := prog_17_method_5_code
def yX5_isPlace : MethodName := ⟨RX5, "isPlace", "(I)Z"⟩
def dkwX5_isPlace_0 : List UInt8 := [26, 3, 16, 11, 184, 0, 85, 172]
abbrev dktX5_isPlace_0 : List UInt8 := dkwX5_isPlace_0 ++ []
theorem dksX5_isPlace_0 : cX5_isPlace.data.toList.drop 0 = dktX5_isPlace_0 := by decide +kernel
theorem dX5_isPlace_0 : decode cX5_isPlace 0 = .ok (.iload_n 0, 1) := dk_26 (dk_at dksX5_isPlace_0 0 rfl rfl)
theorem dX5_isPlace_1 : decode cX5_isPlace 1 = .ok (.iconst 0, 1) := dk_3 (dk_at dksX5_isPlace_0 1 rfl rfl)
theorem dX5_isPlace_2 : decode cX5_isPlace 2 = .ok (.bipush 11, 2) := dk_16 11 (dk_at dksX5_isPlace_0 2 rfl rfl)
theorem dX5_isPlace_4 : decode cX5_isPlace 4 = .ok (.invokestatic 85, 3) := dk_184 0 85 (dk_at dksX5_isPlace_0 4 rfl rfl)
theorem dX5_isPlace_7 : decode cX5_isPlace 7 = .ok (.ireturn, 1) := dk_172 (dk_at dksX5_isPlace_0 7 rfl rfl)
abbrev cX5_looker : ByteArray := prog_17_method_24_code
def yX5_looker : MethodName := ⟨RX5, "looker", "(III)I"⟩
def dkwX5_looker_2 : List UInt8 := [182, 0, 96, 167, 0, 10, 42, 27, 28, 29, 182, 0, 127, 172]
abbrev dktX5_looker_2 : List UInt8 := dkwX5_looker_2 ++ []
def dkwX5_looker_1 : List UInt8 := [154, 0, 10, 42, 16, 254, 182, 0, 96, 172, 42, 180, 0, 89, 16, 8, 160, 0, 12, 42, 16, 250]
abbrev dktX5_looker_1 : List UInt8 := dkwX5_looker_1 ++ dktX5_looker_2
def dkwX5_looker_0 : List UInt8 := [27, 3, 8, 184, 0, 85, 153, 0, 20, 28, 184, 0, 124, 153, 0, 13, 29, 3, 16, 99, 184, 0, 85]
abbrev dktX5_looker_0 : List UInt8 := dkwX5_looker_0 ++ dktX5_looker_1
theorem dksX5_looker_0 : cX5_looker.data.toList.drop 0 = dktX5_looker_0 := by decide +kernel
theorem dksX5_looker_1 : cX5_looker.data.toList.drop 23 = dktX5_looker_1 := dk_seg dksX5_looker_0 23 rfl rfl
theorem dksX5_looker_2 : cX5_looker.data.toList.drop 45 = dktX5_looker_2 := dk_seg dksX5_looker_1 22 rfl rfl
theorem dX5_looker_0 : decode cX5_looker 0 = .ok (.iload_n 1, 1) := dk_27 (dk_at dksX5_looker_0 0 rfl rfl)
theorem dX5_looker_1 : decode cX5_looker 1 = .ok (.iconst 0, 1) := dk_3 (dk_at dksX5_looker_0 1 rfl rfl)
theorem dX5_looker_2 : decode cX5_looker 2 = .ok (.iconst 5, 1) := dk_8 (dk_at dksX5_looker_0 2 rfl rfl)
theorem dX5_looker_3 : decode cX5_looker 3 = .ok (.invokestatic 85, 3) := dk_184 0 85 (dk_at dksX5_looker_0 3 rfl rfl)
theorem dX5_looker_6 : decode cX5_looker 6 = .ok (.ifCond .eq 20, 3) := dk_153 0 20 (dk_at dksX5_looker_0 6 rfl rfl)
theorem dX5_looker_9 : decode cX5_looker 9 = .ok (.iload_n 2, 1) := dk_28 (dk_at dksX5_looker_0 9 rfl rfl)
theorem dX5_looker_10 : decode cX5_looker 10 = .ok (.invokestatic 124, 3) := dk_184 0 124 (dk_at dksX5_looker_0 10 rfl rfl)
theorem dX5_looker_13 : decode cX5_looker 13 = .ok (.ifCond .eq 13, 3) := dk_153 0 13 (dk_at dksX5_looker_0 13 rfl rfl)
theorem dX5_looker_16 : decode cX5_looker 16 = .ok (.iload_n 3, 1) := dk_29 (dk_at dksX5_looker_0 16 rfl rfl)
theorem dX5_looker_17 : decode cX5_looker 17 = .ok (.iconst 0, 1) := dk_3 (dk_at dksX5_looker_0 17 rfl rfl)
theorem dX5_looker_18 : decode cX5_looker 18 = .ok (.bipush 99, 2) := dk_16 99 (dk_at dksX5_looker_0 18 rfl rfl)
theorem dX5_looker_20 : decode cX5_looker 20 = .ok (.invokestatic 85, 3) := dk_184 0 85 (dk_at dksX5_looker_0 20 rfl rfl)
theorem dX5_looker_23 : decode cX5_looker 23 = .ok (.ifCond .ne 10, 3) := dk_154 0 10 (dk_at dksX5_looker_1 0 rfl rfl)
theorem dX5_looker_26 : decode cX5_looker 26 = .ok (.aload_n 0, 1) := dk_42 (dk_at dksX5_looker_1 3 rfl rfl)
theorem dX5_looker_27 : decode cX5_looker 27 = .ok (.bipush (-2), 2) := dk_16 254 (dk_at dksX5_looker_1 4 rfl rfl)
theorem dX5_looker_29 : decode cX5_looker 29 = .ok (.invokevirtual 96, 3) := dk_182 0 96 (dk_at dksX5_looker_1 6 rfl rfl)
theorem dX5_looker_32 : decode cX5_looker 32 = .ok (.ireturn, 1) := dk_172 (dk_at dksX5_looker_1 9 rfl rfl)
theorem dX5_looker_33 : decode cX5_looker 33 = .ok (.aload_n 0, 1) := dk_42 (dk_at dksX5_looker_1 10 rfl rfl)
theorem dX5_looker_34 : decode cX5_looker 34 = .ok (.getfield 89, 3) := dk_180 0 89 (dk_at dksX5_looker_1 11 rfl rfl)
theorem dX5_looker_37 : decode cX5_looker 37 = .ok (.bipush 8, 2) := dk_16 8 (dk_at dksX5_looker_1 14 rfl rfl)
theorem dX5_looker_39 : decode cX5_looker 39 = .ok (.if_icmp .ne 12, 3) := dk_160 0 12 (dk_at dksX5_looker_1 16 rfl rfl)
theorem dX5_looker_42 : decode cX5_looker 42 = .ok (.aload_n 0, 1) := dk_42 (dk_at dksX5_looker_1 19 rfl rfl)
theorem dX5_looker_43 : decode cX5_looker 43 = .ok (.bipush (-6), 2) := dk_16 250 (dk_at dksX5_looker_1 20 rfl rfl)
theorem dX5_looker_45 : decode cX5_looker 45 = .ok (.invokevirtual 96, 3) := dk_182 0 96 (dk_at dksX5_looker_2 0 rfl rfl)
theorem dX5_looker_48 : decode cX5_looker 48 = .ok (.goto 10, 3) := dk_167 0 10 (dk_at dksX5_looker_2 3 rfl rfl)
theorem dX5_looker_51 : decode cX5_looker 51 = .ok (.aload_n 0, 1) := dk_42 (dk_at dksX5_looker_2 6 rfl rfl)
theorem dX5_looker_52 : decode cX5_looker 52 = .ok (.iload_n 1, 1) := dk_27 (dk_at dksX5_looker_2 7 rfl rfl)
theorem dX5_looker_53 : decode cX5_looker 53 = .ok (.iload_n 2, 1) := dk_28 (dk_at dksX5_looker_2 8 rfl rfl)
theorem dX5_looker_54 : decode cX5_looker 54 = .ok (.iload_n 3, 1) := dk_29 (dk_at dksX5_looker_2 9 rfl rfl)
theorem dX5_looker_55 : decode cX5_looker 55 = .ok (.invokevirtual 127, 3) := dk_182 0 127 (dk_at dksX5_looker_2 10 rfl rfl)
theorem dX5_looker_58 : decode cX5_looker 58 = .ok (.ireturn, 1) := dk_172 (dk_at dksX5_looker_2 13 rfl rfl)
abbrev cX5_isSort : ByteArray := prog_17_method_6_code
def yX5_isSort : MethodName := ⟨RX5, "isSort", "(I)Z"⟩
def dkwX5_isSort_0 : List UInt8 := [26, 3, 16, 7, 184, 0, 85, 172]
abbrev dktX5_isSort_0 : List UInt8 := dkwX5_isSort_0 ++ []
theorem dksX5_isSort_0 : cX5_isSort.data.toList.drop 0 = dktX5_isSort_0 := by decide +kernel
theorem dX5_isSort_0 : decode cX5_isSort 0 = .ok (.iload_n 0, 1) := dk_26 (dk_at dksX5_isSort_0 0 rfl rfl)
theorem dX5_isSort_1 : decode cX5_isSort 1 = .ok (.iconst 0, 1) := dk_3 (dk_at dksX5_isSort_0 1 rfl rfl)
theorem dX5_isSort_2 : decode cX5_isSort 2 = .ok (.bipush 7, 2) := dk_16 7 (dk_at dksX5_isSort_0 2 rfl rfl)
theorem dX5_isSort_4 : decode cX5_isSort 4 = .ok (.invokestatic 85, 3) := dk_184 0 85 (dk_at dksX5_isSort_0 4 rfl rfl)
theorem dX5_isSort_7 : decode cX5_isSort 7 = .ok (.ireturn, 1) := dk_172 (dk_at dksX5_isSort_0 7 rfl rfl)
abbrev cX5_newLooker : ByteArray := prog_17_method_23_code
def yX5_newLooker : MethodName := ⟨RX5, "newLooker", "(III)I"⟩
def dkwX5_newLooker_4 : List UInt8 := [180, 0, 89, 90, 4, 96, 181, 0, 89, 172]
abbrev dktX5_newLooker_4 : List UInt8 := dkwX5_newLooker_4 ++ []
def dkwX5_newLooker_3 : List UInt8 := [180, 0, 31, 16, 8, 42, 180, 0, 89, 104, 21, 4, 96, 3, 79, 132, 4, 1, 167, 255, 230, 42, 89]
abbrev dktX5_newLooker_3 : List UInt8 := dkwX5_newLooker_3 ++ dktX5_newLooker_4
def dkwX5_newLooker_2 : List UInt8 := [16, 6, 79, 42, 180, 0, 28, 42, 180, 0, 89, 2, 79, 3, 54, 4, 21, 4, 16, 8, 162, 0, 25, 42]
abbrev dktX5_newLooker_2 : List UInt8 := dkwX5_newLooker_2 ++ dktX5_newLooker_3
def dkwX5_newLooker_1 : List UInt8 := [42, 180, 0, 89, 29, 79, 42, 180, 0, 22, 42, 180, 0, 89, 3, 79, 42, 180, 0, 25, 42, 180, 0, 89]
abbrev dktX5_newLooker_1 : List UInt8 := dkwX5_newLooker_1 ++ dktX5_newLooker_2
def dkwX5_newLooker_0 : List UInt8 := [42, 180, 0, 13, 42, 180, 0, 89, 27, 79, 42, 180, 0, 16, 42, 180, 0, 89, 28, 79, 42, 180, 0, 19]
abbrev dktX5_newLooker_0 : List UInt8 := dkwX5_newLooker_0 ++ dktX5_newLooker_1
theorem dksX5_newLooker_0 : cX5_newLooker.data.toList.drop 0 = dktX5_newLooker_0 := by decide +kernel
theorem dksX5_newLooker_1 : cX5_newLooker.data.toList.drop 24 = dktX5_newLooker_1 := dk_seg dksX5_newLooker_0 24 rfl rfl
theorem dksX5_newLooker_2 : cX5_newLooker.data.toList.drop 48 = dktX5_newLooker_2 := dk_seg dksX5_newLooker_1 24 rfl rfl
theorem dksX5_newLooker_3 : cX5_newLooker.data.toList.drop 72 = dktX5_newLooker_3 := dk_seg dksX5_newLooker_2 24 rfl rfl
theorem dksX5_newLooker_4 : cX5_newLooker.data.toList.drop 95 = dktX5_newLooker_4 := dk_seg dksX5_newLooker_3 23 rfl rfl
theorem dX5_newLooker_0 : decode cX5_newLooker 0 = .ok (.aload_n 0, 1) := dk_42 (dk_at dksX5_newLooker_0 0 rfl rfl)
theorem dX5_newLooker_1 : decode cX5_newLooker 1 = .ok (.getfield 13, 3) := dk_180 0 13 (dk_at dksX5_newLooker_0 1 rfl rfl)
theorem dX5_newLooker_4 : decode cX5_newLooker 4 = .ok (.aload_n 0, 1) := dk_42 (dk_at dksX5_newLooker_0 4 rfl rfl)
theorem dX5_newLooker_5 : decode cX5_newLooker 5 = .ok (.getfield 89, 3) := dk_180 0 89 (dk_at dksX5_newLooker_0 5 rfl rfl)
theorem dX5_newLooker_8 : decode cX5_newLooker 8 = .ok (.iload_n 1, 1) := dk_27 (dk_at dksX5_newLooker_0 8 rfl rfl)
theorem dX5_newLooker_9 : decode cX5_newLooker 9 = .ok (.iastore, 1) := dk_79 (dk_at dksX5_newLooker_0 9 rfl rfl)
theorem dX5_newLooker_10 : decode cX5_newLooker 10 = .ok (.aload_n 0, 1) := dk_42 (dk_at dksX5_newLooker_0 10 rfl rfl)
theorem dX5_newLooker_11 : decode cX5_newLooker 11 = .ok (.getfield 16, 3) := dk_180 0 16 (dk_at dksX5_newLooker_0 11 rfl rfl)
theorem dX5_newLooker_14 : decode cX5_newLooker 14 = .ok (.aload_n 0, 1) := dk_42 (dk_at dksX5_newLooker_0 14 rfl rfl)
theorem dX5_newLooker_15 : decode cX5_newLooker 15 = .ok (.getfield 89, 3) := dk_180 0 89 (dk_at dksX5_newLooker_0 15 rfl rfl)
theorem dX5_newLooker_18 : decode cX5_newLooker 18 = .ok (.iload_n 2, 1) := dk_28 (dk_at dksX5_newLooker_0 18 rfl rfl)
theorem dX5_newLooker_19 : decode cX5_newLooker 19 = .ok (.iastore, 1) := dk_79 (dk_at dksX5_newLooker_0 19 rfl rfl)
theorem dX5_newLooker_20 : decode cX5_newLooker 20 = .ok (.aload_n 0, 1) := dk_42 (dk_at dksX5_newLooker_0 20 rfl rfl)
theorem dX5_newLooker_21 : decode cX5_newLooker 21 = .ok (.getfield 19, 3) := dk_180 0 19 (dk_at dksX5_newLooker_0 21 rfl rfl)
theorem dX5_newLooker_24 : decode cX5_newLooker 24 = .ok (.aload_n 0, 1) := dk_42 (dk_at dksX5_newLooker_1 0 rfl rfl)
theorem dX5_newLooker_25 : decode cX5_newLooker 25 = .ok (.getfield 89, 3) := dk_180 0 89 (dk_at dksX5_newLooker_1 1 rfl rfl)
theorem dX5_newLooker_28 : decode cX5_newLooker 28 = .ok (.iload_n 3, 1) := dk_29 (dk_at dksX5_newLooker_1 4 rfl rfl)
theorem dX5_newLooker_29 : decode cX5_newLooker 29 = .ok (.iastore, 1) := dk_79 (dk_at dksX5_newLooker_1 5 rfl rfl)
theorem dX5_newLooker_30 : decode cX5_newLooker 30 = .ok (.aload_n 0, 1) := dk_42 (dk_at dksX5_newLooker_1 6 rfl rfl)
theorem dX5_newLooker_31 : decode cX5_newLooker 31 = .ok (.getfield 22, 3) := dk_180 0 22 (dk_at dksX5_newLooker_1 7 rfl rfl)
theorem dX5_newLooker_34 : decode cX5_newLooker 34 = .ok (.aload_n 0, 1) := dk_42 (dk_at dksX5_newLooker_1 10 rfl rfl)
theorem dX5_newLooker_35 : decode cX5_newLooker 35 = .ok (.getfield 89, 3) := dk_180 0 89 (dk_at dksX5_newLooker_1 11 rfl rfl)
theorem dX5_newLooker_38 : decode cX5_newLooker 38 = .ok (.iconst 0, 1) := dk_3 (dk_at dksX5_newLooker_1 14 rfl rfl)
theorem dX5_newLooker_39 : decode cX5_newLooker 39 = .ok (.iastore, 1) := dk_79 (dk_at dksX5_newLooker_1 15 rfl rfl)
theorem dX5_newLooker_40 : decode cX5_newLooker 40 = .ok (.aload_n 0, 1) := dk_42 (dk_at dksX5_newLooker_1 16 rfl rfl)
theorem dX5_newLooker_41 : decode cX5_newLooker 41 = .ok (.getfield 25, 3) := dk_180 0 25 (dk_at dksX5_newLooker_1 17 rfl rfl)
theorem dX5_newLooker_44 : decode cX5_newLooker 44 = .ok (.aload_n 0, 1) := dk_42 (dk_at dksX5_newLooker_1 20 rfl rfl)
theorem dX5_newLooker_45 : decode cX5_newLooker 45 = .ok (.getfield 89, 3) := dk_180 0 89 (dk_at dksX5_newLooker_1 21 rfl rfl)
theorem dX5_newLooker_48 : decode cX5_newLooker 48 = .ok (.bipush 6, 2) := dk_16 6 (dk_at dksX5_newLooker_2 0 rfl rfl)
theorem dX5_newLooker_50 : decode cX5_newLooker 50 = .ok (.iastore, 1) := dk_79 (dk_at dksX5_newLooker_2 2 rfl rfl)
theorem dX5_newLooker_51 : decode cX5_newLooker 51 = .ok (.aload_n 0, 1) := dk_42 (dk_at dksX5_newLooker_2 3 rfl rfl)
theorem dX5_newLooker_52 : decode cX5_newLooker 52 = .ok (.getfield 28, 3) := dk_180 0 28 (dk_at dksX5_newLooker_2 4 rfl rfl)
theorem dX5_newLooker_55 : decode cX5_newLooker 55 = .ok (.aload_n 0, 1) := dk_42 (dk_at dksX5_newLooker_2 7 rfl rfl)
theorem dX5_newLooker_56 : decode cX5_newLooker 56 = .ok (.getfield 89, 3) := dk_180 0 89 (dk_at dksX5_newLooker_2 8 rfl rfl)
theorem dX5_newLooker_59 : decode cX5_newLooker 59 = .ok (.iconst (-1), 1) := dk_2 (dk_at dksX5_newLooker_2 11 rfl rfl)
theorem dX5_newLooker_60 : decode cX5_newLooker 60 = .ok (.iastore, 1) := dk_79 (dk_at dksX5_newLooker_2 12 rfl rfl)
theorem dX5_newLooker_61 : decode cX5_newLooker 61 = .ok (.iconst 0, 1) := dk_3 (dk_at dksX5_newLooker_2 13 rfl rfl)
theorem dX5_newLooker_62 : decode cX5_newLooker 62 = .ok (.istore 4, 2) := dk_54 4 (dk_at dksX5_newLooker_2 14 rfl rfl)
theorem dX5_newLooker_64 : decode cX5_newLooker 64 = .ok (.iload 4, 2) := dk_21 4 (dk_at dksX5_newLooker_2 16 rfl rfl)
theorem dX5_newLooker_66 : decode cX5_newLooker 66 = .ok (.bipush 8, 2) := dk_16 8 (dk_at dksX5_newLooker_2 18 rfl rfl)
theorem dX5_newLooker_68 : decode cX5_newLooker 68 = .ok (.if_icmp .ge 25, 3) := dk_162 0 25 (dk_at dksX5_newLooker_2 20 rfl rfl)
theorem dX5_newLooker_71 : decode cX5_newLooker 71 = .ok (.aload_n 0, 1) := dk_42 (dk_at dksX5_newLooker_2 23 rfl rfl)
theorem dX5_newLooker_72 : decode cX5_newLooker 72 = .ok (.getfield 31, 3) := dk_180 0 31 (dk_at dksX5_newLooker_3 0 rfl rfl)
theorem dX5_newLooker_75 : decode cX5_newLooker 75 = .ok (.bipush 8, 2) := dk_16 8 (dk_at dksX5_newLooker_3 3 rfl rfl)
theorem dX5_newLooker_77 : decode cX5_newLooker 77 = .ok (.aload_n 0, 1) := dk_42 (dk_at dksX5_newLooker_3 5 rfl rfl)
theorem dX5_newLooker_78 : decode cX5_newLooker 78 = .ok (.getfield 89, 3) := dk_180 0 89 (dk_at dksX5_newLooker_3 6 rfl rfl)
theorem dX5_newLooker_81 : decode cX5_newLooker 81 = .ok (.imul, 1) := dk_104 (dk_at dksX5_newLooker_3 9 rfl rfl)
theorem dX5_newLooker_82 : decode cX5_newLooker 82 = .ok (.iload 4, 2) := dk_21 4 (dk_at dksX5_newLooker_3 10 rfl rfl)
theorem dX5_newLooker_84 : decode cX5_newLooker 84 = .ok (.iadd, 1) := dk_96 (dk_at dksX5_newLooker_3 12 rfl rfl)
theorem dX5_newLooker_85 : decode cX5_newLooker 85 = .ok (.iconst 0, 1) := dk_3 (dk_at dksX5_newLooker_3 13 rfl rfl)
theorem dX5_newLooker_86 : decode cX5_newLooker 86 = .ok (.iastore, 1) := dk_79 (dk_at dksX5_newLooker_3 14 rfl rfl)
theorem dX5_newLooker_87 : decode cX5_newLooker 87 = .ok (.iinc 4 1, 3) := dk_132 4 1 (dk_at dksX5_newLooker_3 15 rfl rfl)
theorem dX5_newLooker_90 : decode cX5_newLooker 90 = .ok (.goto (-26), 3) := dk_167 255 230 (dk_at dksX5_newLooker_3 18 rfl rfl)
theorem dX5_newLooker_93 : decode cX5_newLooker 93 = .ok (.aload_n 0, 1) := dk_42 (dk_at dksX5_newLooker_3 21 rfl rfl)
theorem dX5_newLooker_94 : decode cX5_newLooker 94 = .ok (.dup, 1) := dk_89 (dk_at dksX5_newLooker_3 22 rfl rfl)
theorem dX5_newLooker_95 : decode cX5_newLooker 95 = .ok (.getfield 89, 3) := dk_180 0 89 (dk_at dksX5_newLooker_4 0 rfl rfl)
theorem dX5_newLooker_98 : decode cX5_newLooker 98 = .ok (.dup_x1, 1) := dk_90 (dk_at dksX5_newLooker_4 3 rfl rfl)
theorem dX5_newLooker_99 : decode cX5_newLooker 99 = .ok (.iconst 1, 1) := dk_4 (dk_at dksX5_newLooker_4 4 rfl rfl)
theorem dX5_newLooker_100 : decode cX5_newLooker 100 = .ok (.iadd, 1) := dk_96 (dk_at dksX5_newLooker_4 5 rfl rfl)
theorem dX5_newLooker_101 : decode cX5_newLooker 101 = .ok (.putfield 89, 3) := dk_181 0 89 (dk_at dksX5_newLooker_4 6 rfl rfl)
theorem dX5_newLooker_104 : decode cX5_newLooker 104 = .ok (.ireturn, 1) := dk_172 (dk_at dksX5_newLooker_4 9 rfl rfl)
abbrev cX5_likes : ByteArray := prog_17_method_25_code
def yX5_likes : MethodName := ⟨RX5, "likes", "(IIZ)I"⟩
def dkwX5_likes_3 : List UInt8 := [172]
abbrev dktX5_likes_3 : List UInt8 := dkwX5_likes_3 ++ []
def dkwX5_likes_2 : List UInt8 := [27, 46, 4, 28, 120, 128, 167, 0, 15, 42, 180, 0, 22, 27, 46, 4, 28, 120, 2, 130, 126, 79, 21, 4]
abbrev dktX5_likes_2 : List UInt8 := dkwX5_likes_2 ++ dktX5_likes_3
def dkwX5_likes_1 : List UInt8 := [180, 0, 22, 27, 46, 28, 122, 4, 126, 54, 4, 42, 180, 0, 22, 27, 29, 153, 0, 16, 42, 180, 0, 22]
abbrev dktX5_likes_1 : List UInt8 := dkwX5_likes_1 ++ dktX5_likes_2
def dkwX5_likes_0 : List UInt8 := [42, 27, 182, 0, 110, 153, 0, 10, 28, 184, 0, 124, 154, 0, 10, 42, 16, 254, 182, 0, 96, 172, 42]
abbrev dktX5_likes_0 : List UInt8 := dkwX5_likes_0 ++ dktX5_likes_1
theorem dksX5_likes_0 : cX5_likes.data.toList.drop 0 = dktX5_likes_0 := by decide +kernel
theorem dksX5_likes_1 : cX5_likes.data.toList.drop 23 = dktX5_likes_1 := dk_seg dksX5_likes_0 23 rfl rfl
theorem dksX5_likes_2 : cX5_likes.data.toList.drop 47 = dktX5_likes_2 := dk_seg dksX5_likes_1 24 rfl rfl
theorem dksX5_likes_3 : cX5_likes.data.toList.drop 71 = dktX5_likes_3 := dk_seg dksX5_likes_2 24 rfl rfl
theorem dX5_likes_0 : decode cX5_likes 0 = .ok (.aload_n 0, 1) := dk_42 (dk_at dksX5_likes_0 0 rfl rfl)
theorem dX5_likes_1 : decode cX5_likes 1 = .ok (.iload_n 1, 1) := dk_27 (dk_at dksX5_likes_0 1 rfl rfl)
theorem dX5_likes_2 : decode cX5_likes 2 = .ok (.invokevirtual 110, 3) := dk_182 0 110 (dk_at dksX5_likes_0 2 rfl rfl)
theorem dX5_likes_5 : decode cX5_likes 5 = .ok (.ifCond .eq 10, 3) := dk_153 0 10 (dk_at dksX5_likes_0 5 rfl rfl)
theorem dX5_likes_8 : decode cX5_likes 8 = .ok (.iload_n 2, 1) := dk_28 (dk_at dksX5_likes_0 8 rfl rfl)
theorem dX5_likes_9 : decode cX5_likes 9 = .ok (.invokestatic 124, 3) := dk_184 0 124 (dk_at dksX5_likes_0 9 rfl rfl)
theorem dX5_likes_12 : decode cX5_likes 12 = .ok (.ifCond .ne 10, 3) := dk_154 0 10 (dk_at dksX5_likes_0 12 rfl rfl)
theorem dX5_likes_15 : decode cX5_likes 15 = .ok (.aload_n 0, 1) := dk_42 (dk_at dksX5_likes_0 15 rfl rfl)
theorem dX5_likes_16 : decode cX5_likes 16 = .ok (.bipush (-2), 2) := dk_16 254 (dk_at dksX5_likes_0 16 rfl rfl)
theorem dX5_likes_18 : decode cX5_likes 18 = .ok (.invokevirtual 96, 3) := dk_182 0 96 (dk_at dksX5_likes_0 18 rfl rfl)
theorem dX5_likes_21 : decode cX5_likes 21 = .ok (.ireturn, 1) := dk_172 (dk_at dksX5_likes_0 21 rfl rfl)
theorem dX5_likes_22 : decode cX5_likes 22 = .ok (.aload_n 0, 1) := dk_42 (dk_at dksX5_likes_0 22 rfl rfl)
theorem dX5_likes_23 : decode cX5_likes 23 = .ok (.getfield 22, 3) := dk_180 0 22 (dk_at dksX5_likes_1 0 rfl rfl)
theorem dX5_likes_26 : decode cX5_likes 26 = .ok (.iload_n 1, 1) := dk_27 (dk_at dksX5_likes_1 3 rfl rfl)
theorem dX5_likes_27 : decode cX5_likes 27 = .ok (.iaload, 1) := dk_46 (dk_at dksX5_likes_1 4 rfl rfl)
theorem dX5_likes_28 : decode cX5_likes 28 = .ok (.iload_n 2, 1) := dk_28 (dk_at dksX5_likes_1 5 rfl rfl)
theorem dX5_likes_29 : decode cX5_likes 29 = .ok (.ishr, 1) := dk_122 (dk_at dksX5_likes_1 6 rfl rfl)
theorem dX5_likes_30 : decode cX5_likes 30 = .ok (.iconst 1, 1) := dk_4 (dk_at dksX5_likes_1 7 rfl rfl)
theorem dX5_likes_31 : decode cX5_likes 31 = .ok (.iand, 1) := dk_126 (dk_at dksX5_likes_1 8 rfl rfl)
theorem dX5_likes_32 : decode cX5_likes 32 = .ok (.istore 4, 2) := dk_54 4 (dk_at dksX5_likes_1 9 rfl rfl)
theorem dX5_likes_34 : decode cX5_likes 34 = .ok (.aload_n 0, 1) := dk_42 (dk_at dksX5_likes_1 11 rfl rfl)
theorem dX5_likes_35 : decode cX5_likes 35 = .ok (.getfield 22, 3) := dk_180 0 22 (dk_at dksX5_likes_1 12 rfl rfl)
theorem dX5_likes_38 : decode cX5_likes 38 = .ok (.iload_n 1, 1) := dk_27 (dk_at dksX5_likes_1 15 rfl rfl)
theorem dX5_likes_39 : decode cX5_likes 39 = .ok (.iload_n 3, 1) := dk_29 (dk_at dksX5_likes_1 16 rfl rfl)
theorem dX5_likes_40 : decode cX5_likes 40 = .ok (.ifCond .eq 16, 3) := dk_153 0 16 (dk_at dksX5_likes_1 17 rfl rfl)
theorem dX5_likes_43 : decode cX5_likes 43 = .ok (.aload_n 0, 1) := dk_42 (dk_at dksX5_likes_1 20 rfl rfl)
theorem dX5_likes_44 : decode cX5_likes 44 = .ok (.getfield 22, 3) := dk_180 0 22 (dk_at dksX5_likes_1 21 rfl rfl)
theorem dX5_likes_47 : decode cX5_likes 47 = .ok (.iload_n 1, 1) := dk_27 (dk_at dksX5_likes_2 0 rfl rfl)
theorem dX5_likes_48 : decode cX5_likes 48 = .ok (.iaload, 1) := dk_46 (dk_at dksX5_likes_2 1 rfl rfl)
theorem dX5_likes_49 : decode cX5_likes 49 = .ok (.iconst 1, 1) := dk_4 (dk_at dksX5_likes_2 2 rfl rfl)
theorem dX5_likes_50 : decode cX5_likes 50 = .ok (.iload_n 2, 1) := dk_28 (dk_at dksX5_likes_2 3 rfl rfl)
theorem dX5_likes_51 : decode cX5_likes 51 = .ok (.ishl, 1) := dk_120 (dk_at dksX5_likes_2 4 rfl rfl)
theorem dX5_likes_52 : decode cX5_likes 52 = .ok (.ior, 1) := dk_128 (dk_at dksX5_likes_2 5 rfl rfl)
theorem dX5_likes_53 : decode cX5_likes 53 = .ok (.goto 15, 3) := dk_167 0 15 (dk_at dksX5_likes_2 6 rfl rfl)
theorem dX5_likes_56 : decode cX5_likes 56 = .ok (.aload_n 0, 1) := dk_42 (dk_at dksX5_likes_2 9 rfl rfl)
theorem dX5_likes_57 : decode cX5_likes 57 = .ok (.getfield 22, 3) := dk_180 0 22 (dk_at dksX5_likes_2 10 rfl rfl)
theorem dX5_likes_60 : decode cX5_likes 60 = .ok (.iload_n 1, 1) := dk_27 (dk_at dksX5_likes_2 13 rfl rfl)
theorem dX5_likes_61 : decode cX5_likes 61 = .ok (.iaload, 1) := dk_46 (dk_at dksX5_likes_2 14 rfl rfl)
theorem dX5_likes_62 : decode cX5_likes 62 = .ok (.iconst 1, 1) := dk_4 (dk_at dksX5_likes_2 15 rfl rfl)
theorem dX5_likes_63 : decode cX5_likes 63 = .ok (.iload_n 2, 1) := dk_28 (dk_at dksX5_likes_2 16 rfl rfl)
theorem dX5_likes_64 : decode cX5_likes 64 = .ok (.ishl, 1) := dk_120 (dk_at dksX5_likes_2 17 rfl rfl)
theorem dX5_likes_65 : decode cX5_likes 65 = .ok (.iconst (-1), 1) := dk_2 (dk_at dksX5_likes_2 18 rfl rfl)
theorem dX5_likes_66 : decode cX5_likes 66 = .ok (.ixor, 1) := dk_130 (dk_at dksX5_likes_2 19 rfl rfl)
theorem dX5_likes_67 : decode cX5_likes 67 = .ok (.iand, 1) := dk_126 (dk_at dksX5_likes_2 20 rfl rfl)
theorem dX5_likes_68 : decode cX5_likes 68 = .ok (.iastore, 1) := dk_79 (dk_at dksX5_likes_2 21 rfl rfl)
theorem dX5_likes_69 : decode cX5_likes 69 = .ok (.iload 4, 2) := dk_21 4 (dk_at dksX5_likes_2 22 rfl rfl)
theorem dX5_likes_71 : decode cX5_likes 71 = .ok (.ireturn, 1) := dk_172 (dk_at dksX5_likes_3 0 rfl rfl)
